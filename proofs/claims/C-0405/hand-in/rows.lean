section
theorem pk_us {f : Nat → Int32} {k : Nat} {x : Int32} : upd f k x k = x := if_pos rfl
theorem pk_un {f : Nat → Int32} {k j : Nat} {x : Int32} (h : j ≠ k) : upd f k x j = f j := if_neg h
theorem pk_sub {a b : Nat} (h : b ≤ a) : nI a - nI b = nI (a - b) := by
  obtain ⟨c, rfl⟩ : ∃ c, a = c + b := ⟨a - b, by omega⟩
  rw [← nI_add, Int32.add_sub_cancel, Nat.add_sub_cancel]
theorem pk_m1 (n : Nat) : nI (n + 1) + (-1) = nI n := by
  rw [← nI_1, Int32.add_assoc, show (1 : Int32) + (-1) = 0 from rfl, Int32.add_zero]
theorem pk_mul (a b : Nat) : nI a * nI b = nI (a * b) := (Int32.ofNat_mul a b).symm
theorem pk_div {a d : Nat} (ha : a < 2 ^ 31) (h0 : 0 < d) (hd : d < 2 ^ 31) : nI a / nI d = nI (a / d) := by
  apply Int32.toInt_inj.mp
  rw [lg_idiv_nonneg (by rw [nI_toInt ha]; omega) (by rw [nI_toInt hd]; omega), nI_toInt ha, nI_toInt hd, nI_toInt (Nat.lt_of_le_of_lt (Nat.div_le_self a d) ha)]
  first | rfl | exact (Int.natCast_ediv _ _).symm
theorem pk_ix (x : Int32) {n : Nat} (hn : n < 2 ^ 31) : x < 0 ∨ nI n ≤ x ∨ ∃ j : Nat, j < n ∧ x = nI j := by
  by_cases h : x < 0
  · exact Or.inl h
  · obtain ⟨j, hj, rfl⟩ := nI_of h
    by_cases h2 : j < n
    · exact Or.inr (Or.inr ⟨j, h2, rfl⟩)
    · exact Or.inr (Or.inl (nI_le (by omega) hj))
theorem pk_le {x y : Int32} {A B : Prop} (a b : Nat) (f : a ≤ b → A) (g : b < a → B) (hx : x = nI a := by rfl) (hy : y = nI b := by rfl) (ha : a < 2 ^ 31 := by omega) (hb : b < 2 ^ 31 := by omega) : (x ≤ y → A) ∧ (¬ x ≤ y → B) := by
  subst hx hy
  rw [nI_leI ha hb]
  exact ⟨f, fun z => g (by omega)⟩
theorem pk_lt {x y : Int32} {A B : Prop} (a b : Nat) (f : a < b → A) (g : b ≤ a → B) (hx : x = nI a := by rfl) (hy : y = nI b := by rfl) (ha : a < 2 ^ 31 := by omega) (hb : b < 2 ^ 31 := by omega) : (x < y → A) ∧ (¬ x < y → B) := by
  subst hx hy
  rw [nI_ltI ha hb]
  exact ⟨f, fun z => g (by omega)⟩
theorem pk_eq {x y : Int32} {A B : Prop} (a b : Nat) (f : a = b → A) (g : a ≠ b → B) (hx : x = nI a := by rfl) (hy : y = nI b := by rfl) (ha : a < 2 ^ 31 := by omega) (hb : b < 2 ^ 31 := by omega) : (x = y → A) ∧ (¬ x = y → B) := by
  subst hx hy
  rw [nI_eq ha hb]
  exact ⟨f, g⟩
theorem pk_in {x : Int32} (n N : Nat) (h : n < N) (hx : x = nI n := by rfl) (hN : N < 2 ^ 31 := by omega) : vp_in x N := by
  subst hx
  exact vp_in_nI h hN
theorem pk_cl {x : Int32} (n : Nat) (hx : x = nI n := by rfl) (h : n < 2 ^ 31 := by omega) : x.toNatClampNeg = n := by
  subst hx
  exact nI_clamp h
theorem pk_tn {n : Nat} (h : n < 2 ^ 32) : (nI n).toBitVec.toNat = n := Nat.mod_eq_of_lt h
theorem pk_and (x : Int32) {m : Int32} (k : Nat) (hm : m.toBitVec.toNat = 2 ^ k - 1) : x &&& m = nI (x.toBitVec.toNat % 2 ^ k) := by
  apply Int32.toBitVec_inj.mp
  apply BitVec.eq_of_toNat_eq
  rw [Int32.toBitVec_and, BitVec.toNat_and, hm, Nat.and_two_pow_sub_one_eq_mod]
  show _ = (BitVec.ofNat 32 _).toNat
  rw [BitVec.toNat_ofNat]
  exact (Nat.mod_eq_of_lt (Nat.lt_of_le_of_lt (Nat.mod_le _ _) x.toBitVec.isLt)).symm
theorem pk_andN {n : Nat} (h : n < 2 ^ 32) {m : Int32} (k : Nat) (hm : m.toBitVec.toNat = 2 ^ k - 1) : nI n &&& m = nI (n % 2 ^ k) := by
  rw [pk_and _ k hm, pk_tn h]
theorem pk_andE (x : Int32) {m : Int32} (k : Nat) (hm : m.toBitVec.toNat = 2 ^ k - 1) : ∃ j : Nat, j < 2 ^ k ∧ x &&& m = nI j := ⟨_, Nat.mod_lt _ (Nat.two_pow_pos k), pk_and x k hm⟩
theorem pk_shr (a s : Int32) (k : Nat) (hs : (s.toBitVec.smod 32).toNat = k) : (a >>> s).toInt = a.toInt >>> k := by
  show (a.toBitVec.sshiftRight (s.toBitVec.smod 32).toNat).toInt = _
  rw [hs, BitVec.toInt_sshiftRight]
  rfl
theorem pk_shrN {n : Nat} (h : n < 2 ^ 31) (s : Int32) (k : Nat) (hs : (s.toBitVec.smod 32).toNat = k) : nI n >>> s = nI (n / 2 ^ k) := by
  apply Int32.toInt_inj.mp
  have h2 : n / 2 ^ k ≤ n := Nat.div_le_self _ _
  rw [pk_shr _ _ k hs, nI_toInt h, nI_toInt (by omega), Int.shiftRight_eq_div_pow]
  rfl
theorem pk_least (P : Nat → Prop) (h : ∃ k, P k) : ∃ k, P k ∧ ∀ j, j < k → ¬ P j := by
  obtain ⟨k, hk⟩ := h
  induction k using Nat.strongRecOn with
  | ind k ih =>
    by_cases e : ∃ j, j < k ∧ P j
    · obtain ⟨j, hj, pj⟩ := e
      exact ih j hj pj
    · exact ⟨k, hk, fun j hj pj => e ⟨j, hj, pj⟩⟩
end
section
/-- a byte -/
def sd_B (x : Int32) : Prop := ∃ b : Nat, b < 256 ∧ x = nI b
/-- a program q of c cells gives the content E (size e) from the content D (size d); P: where each cell begins -/
def sd_Stp (q D : Nat → Int32) (d : Nat) (E : Nat → Int32) (e : Nat) (P : Nat → Nat) (p : Nat) : Prop :=
  P (p + 1) ≤ e ∧
    ((∃ b : Nat, b < 256 ∧ q p = nI b ∧ E (P p) = nI b ∧ P (p + 1) = P p + 1) ∨
     (∃ f l : Nat, 1 ≤ l ∧ l ≤ 16 ∧ f + l ≤ d ∧ q p = nI (256 + (f * 16 + (l - 1))) ∧ P (p + 1) = P p + l ∧ ∀ i, i < l → E (P p + i) = D (f + i)))
def sd_Prg (q D : Nat → Int32) (d : Nat) (E : Nat → Int32) (e c : Nat) (P : Nat → Nat) : Prop :=
  P 0 = 0 ∧ P c = e ∧ ∀ p, p < c → sd_Stp q D d E e P p
/-- what is kept of chunk x: raw, or a program against a chunk b that lives -/
def sd_Ck (L : Nat → Prop) (S : Nat → Nat) (C : Nat → Nat → Int32) (sz bs ce py : Nat → Int32) (x : Nat) : Prop :=
  S x ≤ 16 ∧ sz x = nI (S x) ∧ (∀ i, i < S x → sd_B (C x i)) ∧
  ((bs x = 0 ∧ ∀ i, i < S x → py (x * 16 + i) = C x i) ∨
   (∃ b : Nat, b < 96 ∧ L b ∧ bs x = nI (b + 1) ∧ ∃ (c : Nat) (P : Nat → Nat), c ≤ 16 ∧ ce x = nI c ∧
      sd_Prg (fun p => py (x * 16 + p)) (C b) (S b) (C x) (S x) c P))
/-- at most k bases lie below x -/
def sd_Dp (bs : Nat → Int32) : Nat → Nat → Prop
  | 0 => fun x => bs x = 0
  | k + 1 => fun x => bs x = 0 ∨ ∃ b : Nat, b < 96 ∧ bs x = nI (b + 1) ∧ sd_Dp bs k b
def sd_St (L : Nat → Prop) (S : Nat → Nat) (C : Nat → Nat → Int32) (sz bs ce py : Nat → Int32) : Prop :=
  ∀ x, x < 96 → L x → sd_Ck L S C sz bs ce py x ∧ sd_Dp bs 2 x
/-- where part k begins -/
def sd_off (S q : Nat → Nat) : Nat → Nat
  | 0 => 0
  | k + 1 => sd_off S q k + S (q k)
/-- slot s: p parts, the chunks q, together the bytes F, z of them -/
def sd_Sl (S : Nat → Nat) (C : Nat → Nat → Int32) (pa pt : Nat → Int32) (s p : Nat) (q : Nat → Nat) (F : Nat → Int32) (z : Nat) : Prop :=
  p ≤ 16 ∧ pa s = nI p ∧ sd_off S q p = z ∧ z ≤ 96 ∧
  ∀ k, k < p → pt (s * 16 + k) = nI (q k) ∧ q k < 96 ∧ ∀ i, i < S (q k) → F (sd_off S q k + i) = C (q k) i
def sd_ct (q : Nat → Nat) (x : Nat) : Nat → Nat
  | 0 => 0
  | k + 1 => sd_ct q x k + (if q k = x then 1 else 0)
def sd_sm (f : Nat → Nat) : Nat → Nat
  | 0 => 0
  | n + 1 => sd_sm f n + f n
def sd_cnt (P : Nat → Nat) (Q : Nat → Nat → Nat) (x : Nat) : Nat := sd_sm (fun s => sd_ct (Q s) x (P s)) 6
/-- a function with one place changed -/
def sd_set {α : Type} (f : Nat → α) (k : Nat) (a : α) : Nat → α := fun j => if j = k then a else f j
theorem sd_set_s {α : Type} {f : Nat → α} {k : Nat} {a : α} : sd_set f k a k = a := if_pos rfl
theorem sd_set_n {α : Type} {f : Nat → α} {k j : Nat} {a : α} (h : j ≠ k) : sd_set f k a j = f j := if_neg h
-- numbers
theorem sd_ix (a b : Nat) : nI a * 16 + nI b = nI (a * 16 + b) := by
  have h : (16 : Int32) = nI 16 := rfl
  rw [h, pk_mul, nI_add]
theorem sd_ix96 (a b : Nat) : nI a * 96 + nI b = nI (a * 96 + b) := by
  have h : (96 : Int32) = nI 96 := rfl
  rw [h, pk_mul, nI_add]
theorem sd_nz {b : Nat} (h : b + 1 < 2 ^ 31) : ¬ nI (b + 1) = 0 := nI_ne0 (by omega) h
theorem sd_inj {a b : Nat} (ha : a < 2 ^ 31) (hb : b < 2 ^ 31) (h : nI a = nI b) : a = b := (nI_eq ha hb).mp h
theorem sd_sub1 (n : Nat) : nI (n + 1) - 1 = nI n := nI_pred n
theorem sd_sub2 (m : Nat) : nI (m + 1) - 2 = nI m + (-1) := by
  rw [← nI_1]
  generalize nI m = x
  grind
theorem sd_B255 (x : Int32) : sd_B (x &&& 255) := by
  obtain ⟨j, h1, h2⟩ := pk_andE x (m := 255) 8 (by decide)
  exact ⟨j, h1, h2⟩
theorem sd_Band {x : Int32} (h : sd_B x) : x &&& 255 = x := by
  obtain ⟨b, h1, rfl⟩ := h
  rw [pk_andN (m := 255) (by omega) 8 (by decide), Nat.mod_eq_of_lt (by omega)]
theorem sd_B0 : sd_B 0 := ⟨0, by decide, rfl⟩
theorem sd_Bu {st : Nat → Int32} {k : Nat} {v : Int32} (h : ∀ j, sd_B (st j)) (hv : sd_B v) : ∀ j, sd_B (upd st k v j) := by
  intro j
  by_cases e : j = k
  · subst e; rw [pk_us]; exact hv
  · rw [pk_un e]; exact h j
theorem sd_cop1 {f l : Nat} (h1 : 1 ≤ l) (hl : l ≤ 16) (hf : f ≤ 16) : (nI (256 + (f * 16 + (l - 1))) - 256) >>> ((4 : Int32) &&& 31) = nI f := by
  have h : (256 : Int32) = nI 256 := rfl
  rw [h, pk_sub (by omega), pk_shrN (by omega) _ 4 (by decide)]
  have e : (256 + (f * 16 + (l - 1)) - 256) / 2 ^ 4 = f := by omega
  rw [e]
theorem sd_cop2 {f l : Nat} (h1 : 1 ≤ l) (hl : l ≤ 16) (hf : f ≤ 16) : ((nI (256 + (f * 16 + (l - 1))) - 256) &&& 15) + 1 = nI l := by
  have h : (256 : Int32) = nI 256 := rfl
  rw [h, pk_sub (by omega), pk_andN (m := 15) (by omega) 4 (by decide), nI_1]
  have e : (256 + (f * 16 + (l - 1)) - 256) % 2 ^ 4 + 1 = l := by omega
  rw [e]
theorem sd_mk {a b : Nat} (hb : 1 ≤ b) : ((256 + (nI a * 16)) + nI b) - 1 = nI (256 + (a * 16 + (b - 1))) := by
  have h : (256 : Int32) = nI 256 := rfl
  have h' : (16 : Int32) = nI 16 := rfl
  have h1 : (1 : Int32) = nI 1 := rfl
  rw [h, h', h1, pk_mul, nI_add, nI_add, pk_sub (by omega)]
  exact congrArg nI (by omega)
-- chains of bases
theorem sd_Dp_mono {bs : Nat → Int32} : ∀ k x, sd_Dp bs k x → sd_Dp bs (k + 1) x := by
  intro k
  induction k with
  | zero => intro x h; exact Or.inl h
  | succ k ih =>
    intro x h
    rcases h with h | ⟨b, h1, h2, h3⟩
    · exact Or.inl h
    · exact Or.inr ⟨b, h1, h2, ih b h3⟩
/-- zeroing a base keeps the depths -/
theorem sd_Dp_zero {bs : Nat → Int32} {d : Nat} : ∀ k x, sd_Dp bs k x → sd_Dp (upd bs d 0) k x := by
  intro k
  induction k with
  | zero =>
    intro x h
    by_cases e : x = d
    · subst e; exact pk_us
    · exact (pk_un e).trans h
  | succ k ih =>
    intro x h
    by_cases e : x = d
    · subst e; exact Or.inl pk_us
    · rcases h with h | ⟨b, h1, h2, h3⟩
      · exact Or.inl ((pk_un e).trans h)
      · exact Or.inr ⟨b, h1, (pk_un e).trans h2, ih b h3⟩
/-- depths of living chunks look at living chunks alone -/
theorem sd_Dp_live {bs bs' : Nat → Int32} {L : Nat → Prop} (hc : ∀ x, x < 96 → L x → ∀ b, b < 96 → bs x = nI (b + 1) → L b) (he : ∀ x, x < 96 → L x → bs' x = bs x) :
    ∀ k x, x < 96 → L x → sd_Dp bs k x → sd_Dp bs' k x := by
  intro k
  induction k with
  | zero => intro x hx hl h; exact (he x hx hl).trans h
  | succ k ih =>
    intro x hx hl h
    rcases h with h | ⟨b, h1, h2, h3⟩
    · exact Or.inl ((he x hx hl).trans h)
    · exact Or.inr ⟨b, h1, (he x hx hl).trans h2, ih b h1 (hc x hx hl b h1 h2) h3⟩
/-- a living chunk's base lives, and the chunk is a program against it -/
theorem sd_base {L : Nat → Prop} {S : Nat → Nat} {C : Nat → Nat → Int32} {sz bs ce py : Nat → Int32} {x b : Nat} (H : sd_Ck L S C sz bs ce py x) (hb : b < 96) (e : bs x = nI (b + 1)) :
    L b ∧ ∃ (c : Nat) (P : Nat → Nat), c ≤ 16 ∧ ce x = nI c ∧ sd_Prg (fun p => py (x * 16 + p)) (C b) (S b) (C x) (S x) c P := by
  obtain ⟨_, _, _, h | ⟨b', h1, h2, h3, h4⟩⟩ := H
  · exact absurd (e.symm.trans h.1) (sd_nz (by omega))
  · have e2 : b' + 1 = b + 1 := sd_inj (by omega) (by omega) (h3.symm.trans e)
    have e3 : b' = b := by omega
    subst e3
    exact ⟨h2, h4⟩
theorem sd_raw {L : Nat → Prop} {S : Nat → Nat} {C : Nat → Nat → Int32} {sz bs ce py : Nat → Int32} {x : Nat} (H : sd_Ck L S C sz bs ce py x) (e : bs x = 0) :
    ∀ i, i < S x → py (x * 16 + i) = C x i := by
  obtain ⟨_, _, _, h | ⟨b', h1, h2, h3, h4⟩⟩ := H
  · exact h.2
  · exact absurd (h3.symm.trans e) (sd_nz (by omega))
/-- a base is nothing, or a number and one -/
theorem sd_bcase {L : Nat → Prop} {S : Nat → Nat} {C : Nat → Nat → Int32} {sz bs ce py : Nat → Int32} {x : Nat} (H : sd_Ck L S C sz bs ce py x) :
    bs x = 0 ∨ ∃ b : Nat, b < 96 ∧ L b ∧ bs x = nI (b + 1) := by
  obtain ⟨_, _, _, h | ⟨b', h1, h2, h3, h4⟩⟩ := H
  · exact Or.inl h.1
  · exact Or.inr ⟨b', h1, h2, h3⟩
theorem sd_St_cl {L : Nat → Prop} {S : Nat → Nat} {C : Nat → Nat → Int32} {sz bs ce py : Nat → Int32} (H : sd_St L S C sz bs ce py) :
    ∀ x, x < 96 → L x → ∀ b, b < 96 → bs x = nI (b + 1) → L b := fun x hx hl b hb e => (sd_base (H x hx hl).1 hb e).1
end
section
section
variable {sg pl : Int32} {st sv pa pt rf sz bs ce py pr fA fB fr ou un pg ch : Nat → Int32}
theorem sd_cb {post : Int32 → SX → Prop} {f l t : Nat} (hf : f + l ≤ 16) (ht : t + l ≤ 16) : ∀ (n i : Nat) (ou : Nat → Int32), i ≤ l → l - i < n →
    (∀ ou' : Nat → Int32, (∀ j, j < t + i → ou' j = ou j) → (∀ j, i ≤ j → j < l → ou' (t + j) = un (f + j)) → post (nI (t + l)) (sg, pl, st, sv, pa, pt, rf, sz, bs, ce, py, pr, fA, fB, fr, ou', un, pg, ch)) →
    wX_copyBytes_6 post (nI f) (nI l) sg pl n (nI (t + i)) (nI i) st sv pa pt rf sz bs ce py pr fA fB fr ou un pg ch := by
  intro n
  induction n with
  | zero => intro i ou h1 h2; omega
  | succ n ih =>
    intro i ou h1 h2 K
    refine pk_le l i (fun h => ?_) (fun h => ?_)
    · have e : i = l := by omega
      subst e
      exact K ou (fun _ _ => rfl) (fun j h3 h4 => by omega)
    · refine br_f (nI_ge (b := 16) (by omega) (by decide)) ?_
      refine br_f (by rw [nI_add]; exact nI_ge (b := 16) (by omega) (by decide)) ?_
      refine ⟨pk_in (f + i) 16 (by omega) (nI_add f i), pk_in (t + i) 16 (by omega), ?_⟩
      refine nm_r (e' := upd ou (t + i) (un (f + i))) (by rw [nI_add, nI_clamp (by omega), nI_clamp (by omega)]) ?_
      refine nm_r (nI_1 _) (nm_r (nI_1 _) ?_)
      refine ih (i + 1) (upd ou (t + i) (un (f + i))) (by omega) (by omega) ?_
      intro ou' h3 h4
      refine K ou' (fun j hj => ?_) (fun j h5 h6 => ?_)
      · rw [h3 j (by omega), pk_un (by omega)]
      · by_cases e : j = i
        · subst e
          rw [h3 (t + j) (by omega), pk_us]
        · exact h4 j (by omega) h6
theorem sd_cbp {post : Int32 → SX → Prop} {x y : Int32} {f l t : Nat} (hx : x = nI f) (hy : y = nI l) (hf : f + l ≤ 16) (ht : t + l ≤ 16)
    (K : ∀ ou' : Nat → Int32, (∀ j, j < t → ou' j = ou j) → (∀ j, j < l → ou' (t + j) = un (f + j)) → post (nI (t + l)) (sg, pl, st, sv, pa, pt, rf, sz, bs, ce, py, pr, fA, fB, fr, ou', un, pg, ch)) :
    wpX_copyBytes post (sg, pl, st, sv, pa, pt, rf, sz, bs, ce, py, pr, fA, fB, fr, ou, un, pg, ch) x y (nI t) := by
  subst hx hy
  exact Exists.intro (l + 1) (sd_cb hf ht (l + 1) 0 ou (by omega) (by omega) (fun ou' h1 h2 => K ou' h1 (fun j hj => h2 j (by omega) hj)))
theorem sd_rp30 {post : SX → Prop} {id c d e : Nat} {D E : Nat → Int32} {P : Nat → Nat} (hid : id < 96) (hc : c ≤ 16) (hce : ce id = nI c) (he : e ≤ 16) (hd : d ≤ 16)
    (hP : sd_Prg (fun p => py (id * 16 + p)) D d E e c P) (hu : ∀ j, j < d → un j = D j) : ∀ (n p : Nat) (ou : Nat → Int32), p ≤ c → c - p < n → (∀ j, j < P p → ou j = E j) →
    (∀ ou' : Nat → Int32, (∀ j, j < e → ou' j = E j) → post (sg, pl, st, sv, pa, pt, rf, sz, bs, ce, py, pr, fA, fB, fr, ou', un, pg, ch)) →
    wX_runProgram_30 post (nI id) n (nI (P p)) (nI p) sg pl st sv pa pt rf sz bs ce py pr fA fB fr ou un pg ch := by
  intro n
  induction n with
  | zero => intro p ou h1 h2; omega
  | succ n ih =>
    intro p ou h1 h2 ho K
    refine And.intro (vp_in_nI hid (by decide)) ?_
    refine pk_le c p (fun h => ?_) (fun h => ?_) (by rw [nI_clamp (by omega)]; exact hce)
    · have ep : p = c := by omega
      subst ep
      exact K ou (fun j hj => ho j (by rw [hP.2.1]; exact hj))
    · refine ⟨pk_in (id * 16 + p) 1536 (by omega) (sd_ix id p), ?_⟩
      have hs := hP.2.2 p h
      obtain ⟨hle, hs | hs⟩ := hs
      · obtain ⟨b, hb, hq, hE, hn⟩ := hs
        refine nm_r (e' := nI b) (by rw [sd_ix, nI_clamp (by omega)]; exact hq) ?_
        refine br_f (nI_ge (b := 256) (by omega) (by decide)) ?_
        refine br_f (nI_ge (b := 16) (by omega) (by decide)) ?_
        refine ⟨pk_in (P p) 16 (by omega), ?_⟩
        refine nm_r (e' := upd ou (P p) (nI b)) (by rw [nI_clamp (by omega)]) ?_
        refine nm_r (e' := nI (P (p + 1))) (by rw [nI_1, hn]) (nm_r (nI_1 _) ?_)
        refine ih (p + 1) _ (by omega) (by omega) (fun j hj => ?_) K
        by_cases ej : j = P p
        · subst ej
          rw [pk_us, hE]
        · rw [pk_un ej, ho j (by omega)]
      · obtain ⟨f, l, hl1, hl2, hfl, hq, hn, hE⟩ := hs
        refine nm_r (e' := nI (256 + (f * 16 + (l - 1)))) (by rw [sd_ix, nI_clamp (by omega)]; exact hq) ?_
        refine br_t (nI_le (a := 256) (by omega) (by omega)) ?_
        refine sd_cbp (sd_cop1 hl1 hl2 (by omega)) (sd_cop2 hl1 hl2 (by omega)) (by omega) (by omega) ?_
        intro ou' h3 h4
        refine nm_r (nI_1 _) ?_
        rw [← hn]
        refine ih (p + 1) ou' (by omega) (by omega) (fun j hj => ?_) K
        by_cases ej : j < P p
        · rw [h3 j ej, ho j ej]
        · obtain ⟨i, rfl⟩ : ∃ i, j = P p + i := ⟨j - P p, by omega⟩
          rw [h4 i (by omega), hE i (by omega), hu (f + i) (by omega)]
theorem sd_rp2 {post : SX → Prop} {x : Int32} : ∀ (n i : Nat) (un : Nat → Int32), i ≤ 16 → 16 - i < n → (∀ j, j < i → un j = ou j) →
    (∀ un' : Nat → Int32, (∀ j, j < 16 → un' j = ou j) → ∃ n30, wX_runProgram_30 post x n30 0 0 sg pl st sv pa pt rf sz bs ce py pr fA fB fr ou un' pg ch) →
    wX_runProgram_2 post x sg pl n (nI i) st sv pa pt rf sz bs ce py pr fA fB fr ou un pg ch := by
  intro n
  induction n with
  | zero => intro i un h1 h2; omega
  | succ n ih =>
    intro i un h1 h2 hu K
    refine pk_le 16 i (fun h => ?_) (fun h => ?_)
    · exact K un (fun j hj => hu j (by omega))
    · refine ⟨vp_in_nI h (by decide), vp_in_nI h (by decide), ?_⟩
      refine nm_r (e' := upd un i (ou i)) (by rw [nI_clamp (by omega)]) (nm_r (nI_1 _) ?_)
      refine ih (i + 1) _ (by omega) (by omega) (fun j hj => ?_) K
      by_cases ej : j = i
      · subst ej; rw [pk_us]
      · rw [pk_un ej, hu j (by omega)]
theorem sd_rp {post : SX → Prop} {id c d e : Nat} {D E : Nat → Int32} {P : Nat → Nat} (hid : id < 96) (hc : c ≤ 16) (hce : ce id = nI c) (he : e ≤ 16) (hd : d ≤ 16)
    (hP : sd_Prg (fun p => py (id * 16 + p)) D d E e c P) (ho : ∀ j, j < d → ou j = D j)
    (K : ∀ ou' un' : Nat → Int32, (∀ j, j < e → ou' j = E j) → post (sg, pl, st, sv, pa, pt, rf, sz, bs, ce, py, pr, fA, fB, fr, ou', un', pg, ch)) :
    wpX_runProgram post (sg, pl, st, sv, pa, pt, rf, sz, bs, ce, py, pr, fA, fB, fr, ou, un, pg, ch) (nI id) := by
  refine Exists.intro 17 (sd_rp2 17 0 un (by omega) (by omega) (fun j hj => by omega) ?_)
  intro un' hu
  refine ⟨c + 1, ?_⟩
  have h0 : (0 : Int32) = nI (P 0) := by rw [hP.1]; rfl
  have := sd_rp30 (post := post) (sg := sg) (pl := pl) (st := st) (sv := sv) (pa := pa) (pt := pt) (rf := rf) (sz := sz) (bs := bs) (pr := pr) (fA := fA) (fB := fB) (fr := fr) (pg := pg) (ch := ch) (un := un')
    hid hc hce he hd hP (fun j hj => (hu j (by omega)).trans (ho j hj)) (c + 1) 0 ou (by omega) (by omega) (fun j hj => by rw [hP.1] at hj; omega) (fun ou' h => K ou' un' h)
  rw [← h0] at this
  exact this
/-- the chain as far as m -/
def sd_Ch (L : Nat → Prop) (bs ch : Nat → Int32) (g : Nat → Nat) (m : Nat) : Prop :=
  ∀ j, j ≤ m → ch j = nI (g j) ∧ g j < 96 ∧ L (g j) ∧ (j < m → bs (g j) = nI (g (j + 1) + 1))
theorem sd_wo111 {post : SX → Prop} {L : Nat → Prop} {S : Nat → Nat} {C : Nat → Nat → Int32} {g : Nat → Nat} {m : Nat} (hm : m ≤ 2) (H : sd_St L S C sz bs ce py) (hg : sd_Ch L bs ch g m) :
    ∀ (k n : Nat) (ou un : Nat → Int32), k ≤ m → k < n → (∀ j, j < S (g k) → ou j = C (g k) j) →
    (∀ ou' un' : Nat → Int32, (∀ j, j < S (g 0) → ou' j = C (g 0) j) → post (sg, pl, st, sv, pa, pt, rf, sz, bs, ce, py, pr, fA, fB, fr, ou', un', pg, ch)) →
    wX_writeOut_111 post n (nI k + (-1)) sg pl st sv pa pt rf sz bs ce py pr fA fB fr ou un pg ch := by
  intro k
  induction k with
  | zero =>
    intro n ou un h1 h2 ho K
    obtain ⟨n, rfl⟩ : ∃ n', n = n' + 1 := ⟨n - 1, by omega⟩
    exact br_t (by decide) (K ou un ho)
  | succ k ih =>
    intro n ou un h1 h2 ho K
    obtain ⟨n, rfl⟩ : ∃ n', n = n' + 1 := ⟨n - 1, by omega⟩
    rw [pk_m1]
    refine br_f (nI_pos (by omega)) ⟨vp_in_nI (by omega) (by decide), ?_⟩
    obtain ⟨g1, g2, g3, g4⟩ := hg k (by omega)
    obtain ⟨k1, k2, k3, _⟩ := hg (k + 1) h1
    have hk := (H _ g2 g3).1
    obtain ⟨_, c, P, hc, hce, hP⟩ := sd_base hk k2 (g4 (by omega))
    have hb := (H _ k2 k3).1
    rw [nI_clamp (n := k) (by omega), g1]
    refine sd_rp g2 hc hce hk.1 hb.1 hP ho ?_
    intro ou' un' h3
    refine nm_e ?_
    exact ih n ou' un' (by omega) (by omega) h3 K
theorem sd_wo70 {post : SX → Prop} {x2 : Int32} {b s : Nat} {D : Nat → Int32} (hb : b < 96) (hs : s ≤ 16) (hsz : sz b = nI s) (hr : ∀ i, i < s → py (b * 16 + i) = D i) :
    ∀ (n i : Nat) (ou : Nat → Int32), i ≤ s → s - i < n → (∀ j, j < i → ou j = D j) →
    (∀ ou' : Nat → Int32, (∀ j, j < s → ou' j = D j) → ∃ n111, wX_writeOut_111 post n111 (x2 - 2) sg pl st sv pa pt rf sz bs ce py pr fA fB fr ou' un pg ch) →
    wX_writeOut_70 post x2 (nI b) sg pl n (nI i) st sv pa pt rf sz bs ce py pr fA fB fr ou un pg ch := by
  intro n
  induction n with
  | zero => intro i ou h1 h2; omega
  | succ n ih =>
    intro i ou h1 h2 ho K
    refine And.intro (vp_in_nI hb (by decide)) ?_
    refine pk_le s i (fun h => ?_) (fun h => ?_) (by rw [nI_clamp (by omega)]; exact hsz)
    · exact nm_e (K ou (fun j hj => ho j (by omega)))
    · refine ⟨pk_in (b * 16 + i) 1536 (by omega) (sd_ix b i), vp_in_nI (by omega) (by decide), ?_⟩
      refine nm_r (e' := upd ou i (D i)) (by rw [sd_ix, nI_clamp (by omega), nI_clamp (by omega), hr i h]) (nm_r (nI_1 _) ?_)
      refine ih (i + 1) _ (by omega) (by omega) (fun j hj => ?_) K
      by_cases ej : j = i
      · subst ej; rw [pk_us]
      · rw [pk_un ej, ho j (by omega)]
theorem sd_wo58 {post : SX → Prop} {L : Nat → Prop} {S : Nat → Nat} {C : Nat → Nat → Int32} {g : Nat → Nat} {m : Nat} (hm : m ≤ 2) (H : sd_St L S C sz bs ce py) (hg : sd_Ch L bs ch g m)
    (h0 : bs (g m) = 0) (K : ∀ ou' un' : Nat → Int32, (∀ j, j < S (g 0) → ou' j = C (g 0) j) → post (sg, pl, st, sv, pa, pt, rf, sz, bs, ce, py, pr, fA, fB, fr, ou', un', pg, ch)) :
    wX_writeOut_58 post (nI (m + 1)) sg pl st sv pa pt rf sz bs ce py pr fA fB fr ou un pg ch := by
  obtain ⟨k1, k2, k3, _⟩ := hg m (by omega)
  have hk := (H _ k2 k3).1
  refine And.intro (pk_in m 8 (by omega) (sd_sub1 m)) ?_
  refine nm_r (e' := nI (g m)) (by rw [sd_sub1, nI_clamp (by omega), k1]) ?_
  refine ⟨S (g m) + 1, sd_wo70 k2 hk.1 hk.2.1 (sd_raw hk h0) (S (g m) + 1) 0 ou (by omega) (by omega) (fun j hj => by omega) ?_⟩
  intro ou' ho
  rw [sd_sub2]
  exact ⟨m + 1, sd_wo111 hm H hg m (m + 1) ou' un (by omega) (by omega) ho K⟩
theorem sd_wo9 {post : SX → Prop} {L : Nat → Prop} {S : Nat → Nat} {C : Nat → Nat → Int32} {id : Nat} (H : sd_St L S C sz bs ce py)
    (K : ∀ ou' un' ch' : Nat → Int32, (∀ j, j < S id → ou' j = C id j) → post (sg, pl, st, sv, pa, pt, rf, sz, bs, ce, py, pr, fA, fB, fr, ou', un', pg, ch')) :
    ∀ (k n m : Nat) (ch : Nat → Int32) (g : Nat → Nat), sd_Dp bs k (g m) → m + k ≤ 2 → k < n → sd_Ch L bs ch g m → g 0 = id →
    wX_writeOut_9 post sg pl n (nI (m + 1)) st sv pa pt rf sz bs ce py pr fA fB fr ou un pg ch := by
  intro k
  induction k with
  | zero =>
    intro n m ch g hD hmk hkn hg h0
    obtain ⟨n, rfl⟩ : ∃ n', n = n' + 1 := ⟨n - 1, by omega⟩
    obtain ⟨k1, k2, k3, _⟩ := hg m (by omega)
    have z : bs (g m) = 0 := hD
    refine br_f (nI_ge (b := 8) (by omega) (by decide)) ⟨pk_in m 8 (by omega) (sd_sub1 m), ?_⟩
    rw [sd_sub1, nI_clamp (n := m) (by omega), k1, nI_clamp (n := g m) (by omega), z]
    refine ⟨vp_in_nI k2 (by decide), br_t (by decide) ?_⟩
    exact sd_wo58 (by omega) H hg z (fun ou' un' h => K ou' un' ch (by rw [h0] at h; exact h))
  | succ k ih =>
    intro n m ch g hD hmk hkn hg h0
    obtain ⟨n, rfl⟩ : ∃ n', n = n' + 1 := ⟨n - 1, by omega⟩
    obtain ⟨k1, k2, k3, _⟩ := hg m (by omega)
    refine br_f (nI_ge (b := 8) (by omega) (by decide)) ⟨pk_in m 8 (by omega) (sd_sub1 m), ?_⟩
    rw [sd_sub1, nI_clamp (n := m) (by omega), k1, nI_clamp (n := g m) (by omega)]
    rcases hD with z | ⟨b, hb, e, hD⟩
    · rw [z]
      refine ⟨vp_in_nI k2 (by decide), br_t (by decide) ?_⟩
      exact sd_wo58 (by omega) H hg z (fun ou' un' h => K ou' un' ch (by rw [h0] at h; exact h))
    · rw [e]
      refine ⟨vp_in_nI k2 (by decide), br_f (nI_nle (by omega) (by omega)) ⟨vp_in_nI (by omega) (by decide), vp_in_nI k2 (by decide), vp_in_nI (by omega) (by decide), ?_⟩⟩
      rw [sd_sub1, nI_clamp (n := m + 1) (by omega)]
      refine nm_e (nm_r (nI_1 _) ?_)
      refine ih n (m + 1) (upd ch (m + 1) (nI b)) (sd_set g (m + 1) b) ?_ (by omega) (by omega) ?_ ?_
      · rw [sd_set_s]; exact hD
      · intro j hj
        by_cases ej : j = m + 1
        · subst ej
          rw [sd_set_s, pk_us]
          exact ⟨rfl, hb, sd_St_cl H _ k2 k3 b hb e, fun h => by omega⟩
        · rw [sd_set_n ej, pk_un ej]
          obtain ⟨j1, j2, j3, j4⟩ := hg j (by omega)
          refine ⟨j1, j2, j3, fun h => ?_⟩
          by_cases ej2 : j = m
          · subst ej2; rw [sd_set_s]; exact e
          · rw [sd_set_n (by omega)]; exact j4 (by omega)
      · rw [sd_set_n (by omega)]; exact h0
/-- writeOut: 'out' holds the chunk -/
theorem sd_wo {post : SX → Prop} {L : Nat → Prop} {S : Nat → Nat} {C : Nat → Nat → Int32} {id : Nat} (H : sd_St L S C sz bs ce py) (hid : id < 96) (hL : L id)
    (K : ∀ ou' un' ch' : Nat → Int32, (∀ j, j < S id → ou' j = C id j) → post (sg, pl, st, sv, pa, pt, rf, sz, bs, ce, py, pr, fA, fB, fr, ou', un', pg, ch')) :
    wpX_writeOut post (sg, pl, st, sv, pa, pt, rf, sz, bs, ce, py, pr, fA, fB, fr, ou, un, pg, ch) (nI id) := by
  have h := (H id hid hL).2
  refine nm_e (P := fun c => ∃ n9 : Nat, wX_writeOut_9 post sg pl n9 1 st sv pa pt rf sz bs ce py pr fA fB fr ou un pg c) ?_
  refine ⟨3, ?_⟩
  refine sd_wo9 H K 2 3 0 (upd ch 0 (nI id)) (fun _ => id) h (by omega) (by omega) ?_ rfl
  intro j hj
  have ej : j = 0 := by omega
  subst ej
  exact ⟨pk_us, hid, hL, fun h => by omega⟩
end
end
section
/-- x is a slot's number -/
def sd_sl (x : Int32) : Prop := ∃ s : Nat, s < 6 ∧ x = nI s
theorem sd_bad_f {post : Int32 → Prop} {s : Nat} (h : s < 6) (K : post 0) : wpX_badSlot post (nI s) :=
  br_f (nI_pos (by omega)) (br_t (nI_le (b := 5) (by omega) (by decide)) K)
theorem sd_slI {x : Int32} (h0 : ¬ x < 0) (h5 : x ≤ 5) : sd_sl x := by
  obtain ⟨j, h1, h2⟩ := nI_of2 (M := 5) (n := 5) (by decide) h0 h5
  exact ⟨j, by omega, h2⟩
theorem sd_bad_t {post : Int32 → Prop} {x : Int32} (h : ¬ sd_sl x) (K : post 1) : wpX_badSlot post x :=
  br_c (fun _ => K) (fun h0 => br_c (fun h5 => absurd (sd_slI h0 h5) h) (fun _ => K))
section
variable {sg pl : Int32} {st sv pa pt rf sz bs ce py pr fA fB fr ou un pg ch : Nat → Int32} {ys yb : Nat → Int32}
theorem sd_ym_bad {post : Int32 → Prop} {x : Int32} (h : ¬ sd_sl x) (K : post (-2)) : wpY_missing post (sg, st, sv, ys, yb) x :=
  br_c (fun _ => K) (fun h0 => br_c (fun h5 => absurd (sd_slI h0 h5) h) (fun _ => K))
theorem sd_ym_no {post : Int32 → Prop} {s : Nat} (h : s < 6) (hs : sv s = 0) (K : post (-4)) : wpY_missing post (sg, st, sv, ys, yb) (nI s) :=
  br_f (nI_pos (by omega)) (br_t (nI_le (b := 5) (by omega) (by decide)) ⟨vp_in_nI h (by decide), br_t (by rw [nI_clamp (by omega)]; exact hs) K⟩)
theorem sd_ym_ok {post : Int32 → Prop} {s : Nat} (h : s < 6) (hs : ¬ sv s = 0) (K : post 0) : wpY_missing post (sg, st, sv, ys, yb) (nI s) :=
  br_f (nI_pos (by omega)) (br_t (nI_le (b := 5) (by omega) (by decide)) ⟨vp_in_nI h (by decide), br_f (by rw [nI_clamp (by omega)]; exact hs) K⟩)
theorem sd_len26 {post : Int32 → Prop} {s p z : Nat} {q : Nat → Nat} {F : Nat → Int32} {S : Nat → Nat} {C : Nat → Nat → Int32} (hs : s < 6) (H : sd_Sl S C pa pt s p q F z)
    (hz : ∀ k, k < p → sz (q k) = nI (S (q k))) (K : post (nI z)) : ∀ n k : Nat, k ≤ p → p - k < n → wX_length_26 post (nI s) sg pl st sv pa pt rf sz bs ce py pr fA fB fr ou un pg ch n (nI (sd_off S q k)) (nI k) := by
  obtain ⟨H1, H2, H3, H4, H5⟩ := H
  intro n
  induction n with
  | zero => intro k h1 h2; omega
  | succ n ih =>
    intro k h1 h2
    refine And.intro (vp_in_nI hs (by decide)) ?_
    refine pk_le p k (fun h => ?_) (fun h => ?_) (by rw [nI_clamp (by omega)]; exact H2)
    · have e : k = p := by omega
      subst e
      rw [H3]
      exact K
    · obtain ⟨g1, g2, g3⟩ := H5 k h
      rw [sd_ix, nI_clamp (n := s * 16 + k) (by omega), g1, nI_clamp (n := q k) (by omega), hz k h]
      refine ⟨vp_in_nI (by omega) (by decide), vp_in_nI g2 (by decide), nm_r (nI_add _ _) (nm_r (nI_1 _) ?_)⟩
      exact ih (k + 1) (by omega) (by omega)
theorem sd_len_bad {post : Int32 → Prop} {x : Int32} (h : ¬ sd_sl x) (K : post (-2)) : wpX_length post (sg, pl, st, sv, pa, pt, rf, sz, bs, ce, py, pr, fA, fB, fr, ou, un, pg, ch) x := by
  unfold wpX_length
  exact sd_bad_t h (br_f (by decide) K)
theorem sd_len_no {post : Int32 → Prop} {s : Nat} (h : s < 6) (hs : sv s = 0) (K : post (-4)) : wpX_length post (sg, pl, st, sv, pa, pt, rf, sz, bs, ce, py, pr, fA, fB, fr, ou, un, pg, ch) (nI s) := by
  unfold wpX_length
  exact sd_bad_f h (br_t rfl ⟨vp_in_nI h (by decide), br_t (by rw [nI_clamp (by omega)]; exact hs) K⟩)
theorem sd_len_ok {post : Int32 → Prop} {s p z : Nat} {q : Nat → Nat} {F : Nat → Int32} {S : Nat → Nat} {C : Nat → Nat → Int32} (h : s < 6) (hs : ¬ sv s = 0) (H : sd_Sl S C pa pt s p q F z)
    (hz : ∀ k, k < p → sz (q k) = nI (S (q k))) (K : post (nI z)) : wpX_length post (sg, pl, st, sv, pa, pt, rf, sz, bs, ce, py, pr, fA, fB, fr, ou, un, pg, ch) (nI s) := by
  unfold wpX_length
  exact sd_bad_f h (br_t rfl ⟨vp_in_nI h (by decide), br_f (by rw [nI_clamp (by omega)]; exact hs) ⟨p + 1, sd_len26 h H hz K (p + 1) 0 (by omega) (by omega)⟩⟩)
theorem sd_res5 {post : Int32 → SX → Prop} {L : Nat → Prop} {S : Nat → Nat} {C : Nat → Nat → Int32} {s p z a : Nat} {q : Nat → Nat} {F : Nat → Int32} (hs : s < 6)
    (T : sd_St L S C sz bs ce py) (H : sd_Sl S C pa pt s p q F z) (hL : ∀ k, k < p → L (q k)) (ha : a < z)
    (K : ∀ ou' un' ch' : Nat → Int32, post (F a) (sg, pl, st, sv, pa, pt, rf, sz, bs, ce, py, pr, fA, fB, fr, ou', un', pg, ch')) :
    ∀ n k l : Nat, k ≤ p → p - k < n → a = sd_off S q k + l → wX_restored_5 post (nI s) sg pl st sv pa pt rf sz bs ce py pr fA fB fr ou un pg ch n (nI l) (nI k) := by
  obtain ⟨H1, H2, H3, H4, H5⟩ := H
  intro n
  induction n with
  | zero => intro k l h1 h2; omega
  | succ n ih =>
    intro k l h1 h2 hl
    refine And.intro (vp_in_nI hs (by decide)) ?_
    refine pk_le p k (fun h => ?_) (fun h => ?_) (by rw [nI_clamp (by omega)]; exact H2)
    · have e : k = p := by omega
      subst e
      omega
    · obtain ⟨g1, g2, g3⟩ := H5 k h
      have hk := (T _ g2 (hL k h)).1
      have hk1 := hk.1
      refine ⟨pk_in (s * 16 + k) 96 (by omega) (sd_ix s k), nm_r (e' := nI (q k)) (by rw [sd_ix, nI_clamp (by omega)]; exact g1) ⟨vp_in_nI g2 (by decide), ?_⟩⟩
      rw [nI_clamp (n := q k) (by omega), hk.2.1]
      refine pk_le (S (q k)) l (fun h' => ⟨vp_in_nI g2 (by decide), nm_r (pk_sub h') (nm_r (nI_1 _) ?_)⟩) (fun h' => ?_)
      · refine ih (k + 1) (l - S (q k)) (by omega) (by omega) ?_
        show a = sd_off S q k + S (q k) + (l - S (q k))
        omega
      · refine sd_wo T g2 (hL k h) ?_
        intro ou' un' ch' ho
        have e : ou' (nI l).toNatClampNeg = F a := by rw [nI_clamp (by omega), ho l h', ← g3 l h', ← hl]
        refine And.intro (vp_in_nI (by omega) (by decide)) ?_
        rw [e]
        exact K ou' un' ch'
/-- restored: the byte -/
theorem sd_res {post : Int32 → SX → Prop} {L : Nat → Prop} {S : Nat → Nat} {C : Nat → Nat → Int32} {s p z a : Nat} {q : Nat → Nat} {F : Nat → Int32} (hs : s < 6)
    (T : sd_St L S C sz bs ce py) (H : sd_Sl S C pa pt s p q F z) (hL : ∀ k, k < p → L (q k)) (ha : a < z)
    (K : ∀ ou' un' ch' : Nat → Int32, post (F a) (sg, pl, st, sv, pa, pt, rf, sz, bs, ce, py, pr, fA, fB, fr, ou', un', pg, ch')) : wpX_restored post (sg, pl, st, sv, pa, pt, rf, sz, bs, ce, py, pr, fA, fB, fr, ou, un, pg, ch) (nI s) (nI a) :=
  Exists.intro (p + 1) (sd_res5 hs T H hL ha K (p + 1) 0 a (by omega) (by omega) (by show a = 0 + a; omega))
end
end
section
-- counts
theorem sd_ct_le {q : Nat → Nat} {x : Nat} : ∀ a b : Nat, a ≤ b → sd_ct q x a ≤ sd_ct q x b := by
  intro a b
  induction b with
  | zero => intro h; have e : a = 0 := by omega
            subst e; exact Nat.le_refl _
  | succ b ih =>
    intro h
    by_cases e : a = b + 1
    · subst e; exact Nat.le_refl _
    · exact Nat.le_trans (ih (by omega)) (Nat.le_add_right _ _)
theorem sd_ct_hit {q : Nat → Nat} {k : Nat} : sd_ct q (q k) (k + 1) = sd_ct q (q k) k + 1 := by
  show sd_ct q (q k) k + (if q k = q k then 1 else 0) = _
  rw [if_pos rfl]
theorem sd_ct_pos {q : Nat → Nat} {k p : Nat} (h : k < p) : sd_ct q (q k) k + 1 ≤ sd_ct q (q k) p := by
  rw [← sd_ct_hit]
  exact sd_ct_le _ _ h
theorem sd_ct_lep {q : Nat → Nat} {x : Nat} : ∀ p : Nat, sd_ct q x p ≤ p := by
  intro p
  induction p with
  | zero => exact Nat.le_refl _
  | succ p ih =>
    show sd_ct q x p + (if q p = x then 1 else 0) ≤ p + 1
    split <;> omega
theorem sd_ct_cong {q q' : Nat → Nat} {x : Nat} : ∀ p : Nat, (∀ k, k < p → q' k = q k) → sd_ct q' x p = sd_ct q x p := by
  intro p
  induction p with
  | zero => intro _; rfl
  | succ p ih =>
    intro h
    show sd_ct q' x p + (if q' p = x then 1 else 0) = sd_ct q x p + (if q p = x then 1 else 0)
    rw [ih (fun k hk => h k (by omega)), h p (by omega)]
theorem sd_sm_le {f : Nat → Nat} : ∀ n s : Nat, s < n → f s ≤ sd_sm f n := by
  intro n
  induction n with
  | zero => intro s h; omega
  | succ n ih =>
    intro s h
    show f s ≤ sd_sm f n + f n
    by_cases e : s = n
    · subst e; omega
    · have := ih s (by omega); omega
theorem sd_sm_mono {f g : Nat → Nat} : ∀ n : Nat, (∀ s, s < n → f s ≤ g s) → sd_sm f n ≤ sd_sm g n := by
  intro n
  induction n with
  | zero => intro _; exact Nat.le_refl _
  | succ n ih =>
    intro h
    have h1 := ih (fun s hs => h s (by omega))
    have h2 := h n (by omega)
    show sd_sm f n + f n ≤ sd_sm g n + g n
    omega
theorem sd_sm_cong {f g : Nat → Nat} : ∀ n : Nat, (∀ s, s < n → f s = g s) → sd_sm f n = sd_sm g n := by
  intro n
  induction n with
  | zero => intro _; rfl
  | succ n ih =>
    intro h
    show sd_sm f n + f n = sd_sm g n + g n
    rw [ih (fun s hs => h s (by omega)), h n (by omega)]
theorem sd_sm_one {f g : Nat → Nat} {t : Nat} : ∀ n : Nat, t < n → (∀ s, s < n → s ≠ t → f s = g s) → sd_sm f n + g t = sd_sm g n + f t := by
  intro n
  induction n with
  | zero => intro h; omega
  | succ n ih =>
    intro h he
    show sd_sm f n + f n + g t = sd_sm g n + g n + f t
    by_cases e : t = n
    · subst e
      rw [sd_sm_cong t (fun s hs => he s (by omega) (by omega))]
      omega
    · have h1 := ih (by omega) (fun s hs hn => he s (by omega) hn)
      have h2 := he n (by omega) (fun z => e z.symm)
      omega
theorem sd_sm_add {f g : Nat → Nat} : ∀ n : Nat, sd_sm (fun x => f x + g x) n = sd_sm f n + sd_sm g n := by
  intro n
  induction n with
  | zero => rfl
  | succ n ih =>
    show sd_sm (fun x => f x + g x) n + (f n + g n) = (sd_sm f n + f n) + (sd_sm g n + g n)
    omega
theorem sd_sm_swap {f : Nat → Nat → Nat} {m : Nat} : ∀ n : Nat, sd_sm (fun x => sd_sm (fun s => f s x) m) n = sd_sm (fun s => sd_sm (fun x => f s x) n) m := by
  intro n
  induction n with
  | zero =>
    show 0 = sd_sm (fun s => 0) m
    induction m with
    | zero => rfl
    | succ m ih => exact ih
  | succ n ih =>
    show sd_sm (fun x => sd_sm (fun s => f s x) m) n + sd_sm (fun s => f s n) m = sd_sm (fun s => sd_sm (fun x => f s x) n + f s n) m
    rw [ih, sd_sm_add]
theorem sd_sm_ind {y : Nat} : ∀ n : Nat, sd_sm (fun x => if y = x then 1 else 0) n = if y < n then 1 else 0 := by
  intro n
  induction n with
  | zero => rfl
  | succ n ih =>
    show sd_sm (fun x => if y = x then 1 else 0) n + (if y = n then 1 else 0) = _
    rw [ih]
    by_cases h1 : y = n
    · subst h1; rw [if_neg (by omega), if_pos rfl, if_pos (by omega)]
    · by_cases h2 : y < n
      · rw [if_pos h2, if_neg h1, if_pos (by omega)]
      · rw [if_neg h2, if_neg h1, if_neg (by omega)]
theorem sd_sm_ct {q : Nat → Nat} {N : Nat} : ∀ p : Nat, (∀ k, k < p → q k < N) → sd_sm (fun x => sd_ct q x p) N = p := by
  intro p
  induction p with
  | zero =>
    intro _
    show sd_sm (fun x => 0) N = 0
    induction N with
    | zero => rfl
    | succ N ih => exact ih (fun k hk => absurd hk (Nat.not_lt_zero _))
  | succ p ih =>
    intro h
    show sd_sm (fun x => sd_ct q x p + (if q p = x then 1 else 0)) N = p + 1
    rw [sd_sm_add, ih (fun k hk => h k (by omega)), sd_sm_ind, if_pos (h p (by omega))]
theorem sd_cnt_pos {P : Nat → Nat} {Q : Nat → Nat → Nat} {s k : Nat} (hs : s < 6) (hk : k < P s) : 0 < sd_cnt P Q (Q s k) := by
  have h1 := sd_ct_pos (q := Q s) hk
  have h2 := sd_sm_le (f := fun t => sd_ct (Q t) (Q s k) (P t)) 6 s hs
  have h3 : sd_ct (Q s) (Q s k) (P s) ≤ sd_cnt P Q (Q s k) := h2
  omega
theorem sd_cnt_le {P : Nat → Nat} {Q : Nat → Nat → Nat} {x : Nat} (h : ∀ s, s < 6 → P s ≤ 16) : sd_cnt P Q x ≤ 96 := by
  have h1 : sd_cnt P Q x ≤ sd_sm (fun _ => 16) 6 := sd_sm_mono 6 (fun s hs => Nat.le_trans (sd_ct_lep _) (h s hs))
  exact h1
/-- there is a free chunk -/
theorem sd_free {P : Nat → Nat} {Q : Nat → Nat → Nat} (hq : ∀ s, s < 6 → ∀ k, k < P s → Q s k < 96) (hp : sd_sm P 6 ≤ 95) : ∃ x, x < 96 ∧ sd_cnt P Q x = 0 := by
  apply Classical.byContradiction
  intro hn
  have h1 : ∀ x, x < 96 → 1 ≤ sd_cnt P Q x := by
    intro x hx
    apply Classical.byContradiction
    intro h
    exact hn ⟨x, hx, by omega⟩
  have h2 : sd_sm (fun _ => 1) 96 ≤ sd_sm (sd_cnt P Q) 96 := sd_sm_mono 96 h1
  have h3 : sd_sm (sd_cnt P Q) 96 = sd_sm P 6 := by
    show sd_sm (fun x => sd_sm (fun s => sd_ct (Q s) x (P s)) 6) 96 = _
    rw [sd_sm_swap (f := fun s x => sd_ct (Q s) x (P s))]
    exact sd_sm_cong 6 (fun s hs => sd_sm_ct (P s) (hq s hs))
  have h4 : ∀ n : Nat, sd_sm (fun _ => 1) n = n := by
    intro n
    induction n with
    | zero => rfl
    | succ n ih => exact congrArg (· + 1) ih
  rw [h4] at h2
  omega
/-- every place of a slot lies in a chunk -/
theorem sd_find {S q : Nat → Nat} {a : Nat} : ∀ p : Nat, a < sd_off S q p → ∃ k, k < p ∧ ∃ i, i < S (q k) ∧ a = sd_off S q k + i := by
  intro p
  induction p with
  | zero => intro h; exact absurd h (Nat.not_lt_zero _)
  | succ p ih =>
    intro h
    have h' : a < sd_off S q p + S (q p) := h
    by_cases e : a < sd_off S q p
    · obtain ⟨k, h1, h2⟩ := ih e
      exact ⟨k, by omega, h2⟩
    · exact ⟨p, by omega, a - sd_off S q p, by omega, by omega⟩
/-- the relation's facts -/
def sd_R (n : Nat) (st sv pa pt rf sz bs ce py ys yb : Nat → Int32) (P : Nat → Nat) (Q : Nat → Nat → Nat) (Z S : Nat → Nat) (C : Nat → Nat → Int32) : Prop :=
  n ≤ 96 ∧ (∀ j, sd_B (st j)) ∧ (∀ x, x < 96 → rf x = nI (sd_cnt P Q x)) ∧ sd_St (fun x => 0 < sd_cnt P Q x) S C sz bs ce py ∧
  ∀ s, s < 6 → sd_Sl S C pa pt s (P s) (Q s) (fun i => yb (s * 96 + i)) (Z s) ∧ (sv s = 0 → P s = 0) ∧ (¬ sv s = 0 → ys s = nI (Z s))
/-- stages are equal; the chunks' contents C of each slot's parts are the reference's bytes -/
def i_Rel (k : Nat) (u : SX) (v : SY) : Prop := match u with
  | (sg, pl, st, sv, pa, pt, rf, sz, bs, ce, py, pr, fA, fB, fr, ou, un, pg, ch) => match v with
    | (yn, yst, ysv, ys, yb) => yn = sg ∧ yst = st ∧ ysv = sv ∧
      ∃ (n : Nat) (P : Nat → Nat) (Q : Nat → Nat → Nat) (Z S : Nat → Nat) (C : Nat → Nat → Int32), sg = nI n ∧ sd_R n st sv pa pt rf sz bs ce py ys yb P Q Z S C
theorem i_up {k : Nat} {u : SX} {v : SY} (h : i_Rel k u v) : i_Rel (k + 4) u v := h
section
variable {sg pl : Int32} {st sv pa pt rf sz bs ce py pr fA fB fr ou un pg ch : Nat → Int32} {ys yb : Nat → Int32}
theorem sd_in {k n : Nat} {P : Nat → Nat} {Q : Nat → Nat → Nat} {Z S : Nat → Nat} {C : Nat → Nat → Int32} (h : sd_R n st sv pa pt rf sz bs ce py ys yb P Q Z S C) :
    i_Rel k (nI n, pl, st, sv, pa, pt, rf, sz, bs, ce, py, pr, fA, fB, fr, ou, un, pg, ch) (nI n, st, sv, ys, yb) := by
  unfold i_Rel
  exact ⟨rfl, rfl, rfl, n, P, Q, Z, S, C, rfl, h⟩
end
theorem sd_el {k : Nat} {u : SX} {v : SY} {G : SX → SY → Prop} (I : i_Rel k u v)
    (h : ∀ (n : Nat) (pl : Int32) (st sv pa pt rf sz bs ce py pr fA fB fr ou un pg ch ys yb : Nat → Int32) (P : Nat → Nat) (Q : Nat → Nat → Nat) (Z S : Nat → Nat) (C : Nat → Nat → Int32),
      sd_R n st sv pa pt rf sz bs ce py ys yb P Q Z S C → G (nI n, pl, st, sv, pa, pt, rf, sz, bs, ce, py, pr, fA, fB, fr, ou, un, pg, ch) (nI n, st, sv, ys, yb)) : G u v := by
  obtain ⟨sg, pl, st, sv, pa, pt, rf, sz, bs, ce, py, pr, fA, fB, fr, ou, un, pg, ch⟩ := u
  obtain ⟨yn, yst, ysv, ys, yb⟩ := v
  unfold i_Rel at I
  dsimp only at I
  obtain ⟨e1, e2, e3, n, P, Q, Z, S, C, e4, R⟩ := I
  rw [e1, e2, e3, e4]
  exact h _ _ _ _ _ _ _ _ _ _ _ _ _ _ _ _ _ _ _ _ _ _ _ _ _ _ R
theorem i_vc0 : wpX_init (fun u => wpY_init (fun v => i_Rel 0 u v)) := by
  unfold wpX_init wpY_init
  refine sd_in (k := 0) (n := 0) (P := fun _ => 0) (Q := fun _ _ => 0) (Z := fun _ => 0) (S := fun _ => 0) (C := fun _ _ => 0) ⟨by omega, fun _ => sd_B0, fun x hx => rfl, fun x hx h => ?_, fun s hs => ⟨⟨Nat.zero_le _, rfl, rfl, Nat.zero_le _, fun k hk => absurd hk (Nat.not_lt_zero _)⟩, fun _ => rfl, fun h => absurd rfl h⟩⟩
  exact absurd h (Nat.lt_irrefl 0)
end
section
/-- the stage st with i values f behind place n -/
def sd_fd (st : Nat → Int32) (n : Nat) (f : Nat → Int32) : Nat → Nat → Int32
  | 0 => st
  | i + 1 => upd (sd_fd st n f i) (n + i) (f i)
theorem sd_fdB {st : Nat → Int32} {n : Nat} {f : Nat → Int32} (h : ∀ j, sd_B (st j)) : ∀ m : Nat, (∀ i, i < m → sd_B (f i)) → ∀ j, sd_B (sd_fd st n f m j) := by
  intro m
  induction m with
  | zero => intro _; exact h
  | succ m ih => intro hf; exact sd_Bu (ih (fun i hi => hf i (by omega))) (hf m (by omega))
theorem sd_fdc {st : Nat → Int32} {n : Nat} {f g : Nat → Int32} : ∀ m : Nat, (∀ i, i < m → f i = g i) → sd_fd st n f m = sd_fd st n g m := by
  intro m
  induction m with
  | zero => intro _; rfl
  | succ m ih =>
    intro h
    show upd (sd_fd st n f m) (n + m) (f m) = upd (sd_fd st n g m) (n + m) (g m)
    rw [ih (fun i hi => h i (by omega)), h m (by omega)]
def sd_run (v1 v2 : Int32) (i : Nat) : Int32 := (v1 + nI i * v2) &&& 255
theorem sd_next (v1 v2 : Int32) (i : Nat) : v1 + nI i * v2 + v2 = v1 + nI (i + 1) * v2 := by
  rw [← nI_1]
  generalize nI i = x
  grind
theorem sd_run0 (v1 v2 : Int32) : v1 = v1 + nI 0 * v2 := by
  rw [nI_0]
  grind
section
variable {sg pl : Int32} {st sv pa pt rf sz bs ce py pr fA fB fr ou un pg ch : Nat → Int32} {ys yb : Nat → Int32}
theorem sd_R_st {n m : Nat} {st' : Nat → Int32} {P : Nat → Nat} {Q : Nat → Nat → Nat} {Z S : Nat → Nat} {C : Nat → Nat → Int32} (h : sd_R n st sv pa pt rf sz bs ce py ys yb P Q Z S C)
    (hm : m ≤ 96) (hs : ∀ j, sd_B (st' j)) : sd_R m st' sv pa pt rf sz bs ce py ys yb P Q Z S C := ⟨hm, hs, h.2.2⟩
theorem sd_feed {post : Int32 → SX → Prop} {n : Nat} {b : Int32} (h : n < 96) (K : post (nI (n + 1)) (nI (n + 1), pl, upd st n (b &&& 255), sv, pa, pt, rf, sz, bs, ce, py, pr, fA, fB, fr, ou, un, pg, ch)) : wpX_feed post (nI n, pl, st, sv, pa, pt, rf, sz, bs, ce, py, pr, fA, fB, fr, ou, un, pg, ch) b :=
  br_t (nI_lt (b := 96) h (by decide)) ⟨vp_in_nI h (by decide), nm_r (e' := upd st n (b &&& 255)) (by rw [nI_clamp (by omega)]) (nm_r (nI_1 _) K)⟩
theorem sd_xfr {post : Int32 → SX → Prop} {v1 v2 : Int32} {n m : Nat} (hm : n + m ≤ 96) (K : post (nI (n + m)) (nI (n + m), pl, sd_fd st n (sd_run v1 v2) m, sv, pa, pt, rf, sz, bs, ce, py, pr, fA, fB, fr, ou, un, pg, ch)) :
    ∀ k i : Nat, i ≤ m → m - i < k → wX_feedRun_31 post v2 (nI m) k (v1 + nI i * v2) (nI i) (nI (n + i)) pl (sd_fd st n (sd_run v1 v2) i) sv pa pt rf sz bs ce py pr fA fB fr ou un pg ch := by
  intro k
  induction k with
  | zero => intro i h1 h2; omega
  | succ k ih =>
    intro i h1 h2
    refine pk_le m i (fun h => ?_) (fun h => ?_)
    · have e : i = m := by omega
      subst e
      exact K
    · refine sd_feed (n := n + i) (by omega) ?_
      refine nm_r (sd_next v1 v2 i) (nm_r (nI_1 _) ?_)
      exact ih (i + 1) (by omega) (by omega)
theorem sd_yfr {post : Int32 → SY → Prop} {v1 v2 : Int32} {n m : Nat} (hm : n + m ≤ 96) (K : post (nI (n + m)) (nI (n + m), sd_fd st n (sd_run v1 v2) m, sv, ys, yb)) :
    ∀ k i : Nat, i ≤ m → m - i < k → wY_feedRun_16 post v1 v2 (nI m) (nI n) k (nI i) (sd_fd st n (sd_run v1 v2) i) sv ys yb := by
  intro k
  induction k with
  | zero => intro i h1 h2; omega
  | succ k ih =>
    intro i h1 h2
    refine pk_le m i (fun h => ?_) (fun h => ?_)
    · have e : i = m := by omega
      subst e
      refine pk_le i 0 (fun h0 => ?_) (fun h0 => ?_)
      · have e0 : i = 0 := by omega
        subst e0
        exact K
      · exact nm_r (nI_add _ _) K
    · refine ⟨pk_in (n + i) 96 (by omega) (nI_add n i), ?_⟩
      refine nm_r (e' := upd (sd_fd st n (sd_run v1 v2) i) (n + i) (sd_run v1 v2 i)) (by rw [nI_add, nI_clamp (by omega)]; rfl) (nm_r (nI_1 _) ?_)
      exact ih (i + 1) (by omega) (by omega)
theorem sd_rest {n : Nat} (h : n ≤ 96) : 96 - nI n = nI (96 - n) := by
  have e : (96 : Int32) = nI 96 := rfl
  rw [e, pk_sub h]
theorem sd_yfrun {post : Int32 → SY → Prop} {v1 v2 : Int32} {n m : Nat} (hn : n ≤ 96) (hm : m < 2 ^ 31) (K1 : n + m ≤ 96 → post (nI (n + m)) (nI (n + m), sd_fd st n (sd_run v1 v2) m, sv, ys, yb))
    (K2 : ¬ n + m ≤ 96 → post (-1) (nI n, st, sv, ys, yb)) : wpY_feedRun post (nI n, st, sv, ys, yb) v1 v2 (nI m) := by
  refine pk_le m (96 - n) (fun h => ?_) (fun h => ?_) rfl (sd_rest hn)
  · exact ⟨m + 1, sd_yfr (by omega) (K1 (by omega)) (m + 1) 0 (by omega) (by omega)⟩
  · exact K2 (by omega)
theorem sd_xfrun {post : Int32 → SX → Prop} {v1 v2 : Int32} {n m : Nat} (hn : n ≤ 96) (hm : m < 2 ^ 31) (K1 : n + m ≤ 96 → post (nI (n + m)) (nI (n + m), pl, sd_fd st n (sd_run v1 v2) m, sv, pa, pt, rf, sz, bs, ce, py, pr, fA, fB, fr, ou, un, pg, ch))
    (K2 : ¬ n + m ≤ 96 → post (-1) (nI n, pl, st, sv, pa, pt, rf, sz, bs, ce, py, pr, fA, fB, fr, ou, un, pg, ch)) : wX_feedRun_9 post v1 v2 (nI m) (nI n) pl st sv pa pt rf sz bs ce py pr fA fB fr ou un pg ch := by
  refine pk_le m (96 - n) (fun h => ?_) (fun h => ?_) rfl (sd_rest hn)
  · refine ⟨m + 1, ?_⟩
    have e := sd_xfr (post := post) (v1 := v1) (v2 := v2) (n := n) (m := m) (by omega) (K1 (by omega)) (m + 1) 0 (by omega) (by omega)
    rw [← sd_run0 v1 v2] at e
    exact e
  · exact K2 (by omega)
end
theorem i_vc_begin {k : Nat} {u : SX} {v : SY} (I : i_Rel k u v) (hk : k + 4 ≤ 2048) : wpX_begin (fun u' => wpY_begin (fun v' => i_Rel (k + 4) u' v') v) u := by
  refine sd_el (G := fun u v => wpX_begin (fun u' => wpY_begin (fun v' => i_Rel (k + 4) u' v') v) u) I ?_
  intro n pl st sv pa pt rf sz bs ce py pr fA fB fr ou un pg ch ys yb P Q Z S C R
  unfold wpX_begin wpY_begin
  exact sd_in (k := k + 4) (n := 0) (sd_R_st R (by omega) R.2.1)
theorem i_vc_feedRun {k : Nat} {u : SX} {v : SY} (I : i_Rel k u v) (hk : k + 4 ≤ 2048) (v1 : Int32) (v2 : Int32) (v3 : Int32) : wpX_feedRun (fun r u' => wpY_feedRun (fun r' v' => r' = r ∧ i_Rel (k + 4) u' v') v v1 v2 v3) u v1 v2 v3 := by
  refine sd_el (G := fun u v => wpX_feedRun (fun r u' => wpY_feedRun (fun r' v' => r' = r ∧ i_Rel (k + 4) u' v') v v1 v2 v3) u v1 v2 v3) I ?_
  intro n pl st sv pa pt rf sz bs ce py pr fA fB fr ou un pg ch ys yb P Q Z S C R
  have hn := R.1
  by_cases h0 : v3 < 0
  · have h0' : ¬ 0 ≤ v3 := Int32.not_le.mpr h0
    refine br_f h0' ?_
    refine sd_xfrun (m := 0) hn (by decide) (fun _ => ?_) (fun h => absurd hn h)
    have h1 : v3 ≤ 96 - nI n := by
      rw [sd_rest hn]
      exact Int32.le_trans (Int32.le_of_lt h0) (nI_pos' (by omega))
    refine br_t h1 ⟨1, br_t (Int32.le_of_lt h0) (br_t (Int32.le_of_lt h0) ⟨rfl, ?_⟩)⟩
    exact sd_in (n := n) R
  · obtain ⟨m, hm, rfl⟩ := nI_of h0
    refine br_t (nI_pos' hm) ?_
    refine sd_xfrun hn hm (fun h => ?_) (fun h => ?_)
    · refine sd_yfrun hn hm (fun _ => ⟨rfl, ?_⟩) (fun h' => absurd h h')
      exact sd_in (n := n + m) (sd_R_st R h (sd_fdB R.2.1 m (fun i _ => sd_B255 _)))
    · refine sd_yfrun hn hm (fun h' => absurd h' h) (fun _ => ⟨rfl, ?_⟩)
      exact sd_in (n := n) R
theorem i_vc_feed {k : Nat} {u : SX} {v : SY} (I : i_Rel k u v) (hk : k + 4 ≤ 2048) (v1 : Int32) : wpX_feed (fun r u' => wpY_feed (fun r' v' => r' = r ∧ i_Rel (k + 4) u' v') v v1) u v1 := by
  refine sd_el (G := fun u v => wpX_feed (fun r u' => wpY_feed (fun r' v' => r' = r ∧ i_Rel (k + 4) u' v') v v1) u v1) I ?_
  intro n pl st sv pa pt rf sz bs ce py pr fA fB fr ou un pg ch ys yb P Q Z S C R
  have hn := R.1
  by_cases h : n < 96
  · refine sd_feed h ?_
    unfold wpY_feed
    refine sd_yfrun (m := 1) hn (by decide) (fun _ => ?_) (fun h' => absurd h h')
    refine And.intro rfl ?_
    have e : sd_fd st n (sd_run v1 0) 1 = upd st n (v1 &&& 255) := by
      show upd st (n + 0) ((v1 + nI 0 * 0) &&& 255) = _
      rw [← sd_run0 v1 0]
      rfl
    rw [e]
    exact sd_in (n := n + 1) (sd_R_st R (by omega) (sd_Bu R.2.1 (sd_B255 _)))
  · refine br_f (nI_nlt (b := 96) (by omega) (by omega)) ?_
    unfold wpY_feed
    refine sd_yfrun (m := 1) hn (by decide) (fun h' => absurd h' h) (fun _ => ?_)
    exact And.intro rfl (sd_in (n := n) R)
theorem i_vc_poke {k : Nat} {u : SX} {v : SY} (I : i_Rel k u v) (hk : k + 4 ≤ 2048) (v1 : Int32) (v2 : Int32) : wpX_poke (fun r u' => wpY_poke (fun r' v' => r' = r ∧ i_Rel (k + 4) u' v') v v1 v2) u v1 v2 := by
  refine sd_el (G := fun u v => wpX_poke (fun r u' => wpY_poke (fun r' v' => r' = r ∧ i_Rel (k + 4) u' v') v v1 v2) u v1 v2) I ?_
  intro n pl st sv pa pt rf sz bs ce py pr fA fB fr ou un pg ch ys yb P Q Z S C R
  have hn := R.1
  by_cases h0 : v1 < 0
  · exact br_t h0 (br_t h0 ⟨rfl, sd_in (n := n) R⟩)
  · refine br_f h0 ?_
    obtain ⟨a, ha, rfl⟩ := nI_of h0
    by_cases h1 : a < n
    · have h2 : nI a < nI n := nI_lt h1 (by omega)
      have h3 : vp_in (nI a) 96 := vp_in_nI (by omega) (by decide)
      refine br_t h2 ⟨h3, nm_e ⟨h3, nm_e ?_⟩⟩
      refine br_f h0 (br_t h2 ⟨h3, nm_e ⟨h3, nm_e ⟨rfl, ?_⟩⟩⟩)
      exact sd_in (n := n) (sd_R_st R hn (sd_Bu R.2.1 (sd_B255 _)))
    · have h2 : ¬ nI a < nI n := nI_nlt (by omega) ha
      exact br_f h2 (br_f h0 (br_f h2 ⟨rfl, sd_in (n := n) R⟩))
theorem i_vc_stageLength {k : Nat} {u : SX} {v : SY} (I : i_Rel k u v) (hk : k + 4 ≤ 2048) : wpX_stageLength (fun r => wpY_stageLength (fun r' => r' = r ∧ i_Rel (k + 4) u v) v) u := by
  refine sd_el (G := fun u v => wpX_stageLength (fun r => wpY_stageLength (fun r' => r' = r ∧ i_Rel (k + 4) u v) v) u) I ?_
  intro n pl st sv pa pt rf sz bs ce py pr fA fB fr ou un pg ch ys yb P Q Z S C R
  exact And.intro rfl (sd_in (n := n) R)
theorem i_vc_stageByte {k : Nat} {u : SX} {v : SY} (I : i_Rel k u v) (hk : k + 4 ≤ 2048) (v1 : Int32) : wpX_stageByte (fun r => wpY_stageByte (fun r' => r' = r ∧ i_Rel (k + 4) u v) v v1) u v1 := by
  refine sd_el (G := fun u v => wpX_stageByte (fun r => wpY_stageByte (fun r' => r' = r ∧ i_Rel (k + 4) u v) v v1) u v1) I ?_
  intro n pl st sv pa pt rf sz bs ce py pr fA fB fr ou un pg ch ys yb P Q Z S C R
  have hn := R.1
  have E := sd_in (k := k + 4) (pl := pl) (pr := pr) (fA := fA) (fB := fB) (fr := fr) (ou := ou) (un := un) (pg := pg) (ch := ch) R
  by_cases h0 : v1 < 0
  · exact br_t h0 (br_t h0 ⟨rfl, E⟩)
  · obtain ⟨a, ha, rfl⟩ := nI_of h0
    by_cases h1 : a < n
    · have h2 : nI a < nI n := nI_lt h1 (by omega)
      have h3 : vp_in (nI a) 96 := vp_in_nI (by omega) (by decide)
      exact br_f h0 (br_t h2 ⟨h3, br_f h0 (br_t h2 ⟨h3, rfl, E⟩)⟩)
    · have h2 : ¬ nI a < nI n := nI_nlt (by omega) ha
      exact br_f h0 (br_f h2 (br_f h0 (br_f h2 ⟨rfl, E⟩)))
section
variable {sg pl : Int32} {st sv pa pt rf sz bs ce py pr fA fB fr ou un pg ch : Nat → Int32} {ys yb : Nat → Int32}
theorem sd_ins {a n : Nat} {b : Int32} (hn : n < 96) : ∀ (d i : Nat) (st : Nat → Int32), i = a + d → i ≤ n → (∀ j, sd_B (st j)) →
    ∃ st' : Nat → Int32, (∀ j, sd_B (st' j)) ∧
      (∀ post : Int32 → SX → Prop, post (nI (n + 1)) (nI (n + 1), pl, st', sv, pa, pt, rf, sz, bs, ce, py, pr, fA, fB, fr, ou, un, pg, ch) → wX_insert_31 post (nI a) b (nI n) pl (d + 1) (nI i) st sv pa pt rf sz bs ce py pr fA fB fr ou un pg ch) ∧
      (∀ post : Int32 → SY → Prop, post (nI (n + 1)) (nI (n + 1), st', sv, ys, yb) → wY_insert_31 post (nI a) b (nI n) (d + 1) (nI i) st sv ys yb) := by
  intro d
  induction d with
  | zero =>
    intro i st hi hin hB
    have e : i = a := by omega
    subst e
    have h1 : nI i ≤ nI i := nI_le (Nat.le_refl _) (by omega)
    have h2 : vp_in (nI i) 96 := vp_in_nI (by omega) (by decide)
    refine ⟨upd st i (b &&& 255), sd_Bu hB (sd_B255 _), fun post K => ?_, fun post K => ?_⟩
    · exact br_t h1 ⟨h2, nm_r (e' := upd st i (b &&& 255)) (by rw [nI_clamp (by omega)]) (nm_r (nI_1 _) K)⟩
    · exact br_t h1 ⟨h2, nm_r (e' := upd st i (b &&& 255)) (by rw [nI_clamp (by omega)]) (nm_r (nI_1 _) K)⟩
  | succ d ih =>
    intro i st hi hin hB
    obtain ⟨j, rfl⟩ : ∃ j, i = j + 1 := ⟨i - 1, by omega⟩
    have h1 : ¬ nI (j + 1) ≤ nI a := nI_ge (by omega) (by omega)
    have h2 : vp_in (nI (j + 1) - 1) 96 := pk_in j 96 (by omega) (sd_sub1 j)
    have h3 : vp_in (nI (j + 1)) 96 := vp_in_nI (by omega) (by decide)
    have e : upd st (nI (j + 1)).toNatClampNeg (st (nI (j + 1) - 1).toNatClampNeg) = upd st (j + 1) (st j) := by rw [sd_sub1, nI_clamp (by omega), nI_clamp (by omega)]
    obtain ⟨st', hB', hX, hY⟩ := ih j (upd st (j + 1) (st j)) (by omega) (by omega) (sd_Bu hB (hB j))
    refine ⟨st', hB', fun post K => ?_, fun post K => ?_⟩
    · exact br_f h1 ⟨h2, h3, nm_r e (nm_r (pk_m1 j) (hX post K))⟩
    · exact br_f h1 ⟨h2, h3, nm_r e (nm_r (pk_m1 j) (hY post K))⟩
theorem sd_cut {c e : Nat} (hn : e + c ≤ 96) : ∀ (d i : Nat) (st : Nat → Int32), i + d = e → (∀ j, sd_B (st j)) →
    ∃ st' : Nat → Int32, (∀ j, sd_B (st' j)) ∧
      (∀ post : Int32 → SX → Prop, post (nI e) (nI e, pl, st', sv, pa, pt, rf, sz, bs, ce, py, pr, fA, fB, fr, ou, un, pg, ch) → wX_cut_31 post (nI c) (nI (e + c)) pl (d + 1) (nI i) st sv pa pt rf sz bs ce py pr fA fB fr ou un pg ch) ∧
      (∀ post : Int32 → SY → Prop, post (nI e) (nI e, st', sv, ys, yb) → wY_cut_31 post (nI c) (nI (e + c)) (d + 1) (nI i) st sv ys yb) := by
  have es : nI (e + c) - nI c = nI e := by rw [pk_sub (by omega)]; exact congrArg nI (by omega)
  intro d
  induction d with
  | zero =>
    intro i st hi hB
    have e0 : i = e := by omega
    subst e0
    refine ⟨st, hB, fun post K => ?_, fun post K => ?_⟩
    · exact br_t (by rw [es]; exact nI_le (Nat.le_refl _) (by omega)) (nm_r es K)
    · exact br_t (by rw [nI_add]; exact nI_le (Nat.le_refl _) (by omega)) (nm_r es K)
  | succ d ih =>
    intro i st hi hB
    have h2 : vp_in (nI i + nI c) 96 := pk_in (i + c) 96 (by omega) (nI_add i c)
    have h3 : vp_in (nI i) 96 := vp_in_nI (by omega) (by decide)
    have e1 : upd st (nI i).toNatClampNeg (st (nI i + nI c).toNatClampNeg) = upd st i (st (i + c)) := by rw [nI_add, nI_clamp (by omega), nI_clamp (by omega)]
    obtain ⟨st', hB', hX, hY⟩ := ih (i + 1) (upd st i (st (i + c))) (by omega) (sd_Bu hB (hB _))
    refine ⟨st', hB', fun post K => ?_, fun post K => ?_⟩
    · exact br_f (by rw [es]; exact nI_ge (by omega) (by omega)) ⟨h2, h3, nm_r e1 (nm_r (nI_1 i) (hX post K))⟩
    · exact br_f (by rw [nI_add]; exact nI_ge (by omega) (by omega)) ⟨h2, h3, nm_r e1 (nm_r (nI_1 i) (hY post K))⟩
end
theorem i_vc_insert {k : Nat} {u : SX} {v : SY} (I : i_Rel k u v) (hk : k + 4 ≤ 2048) (v1 : Int32) (v2 : Int32) : wpX_insert (fun r u' => wpY_insert (fun r' v' => r' = r ∧ i_Rel (k + 4) u' v') v v1 v2) u v1 v2 := by
  refine sd_el (G := fun u v => wpX_insert (fun r u' => wpY_insert (fun r' v' => r' = r ∧ i_Rel (k + 4) u' v') v v1 v2) u v1 v2) I ?_
  intro n pl st sv pa pt rf sz bs ce py pr fA fB fr ou un pg ch ys yb P Q Z S C R
  have hn := R.1
  by_cases h0 : v1 < 0
  · exact br_t h0 (br_t h0 ⟨rfl, sd_in (n := n) R⟩)
  · obtain ⟨a, ha, rfl⟩ := nI_of h0
    by_cases h1 : a ≤ n
    · have h2 : nI a ≤ nI n := nI_le h1 (by omega)
      by_cases h3 : n < 96
      · have h4 : nI n < 96 := nI_lt (b := 96) h3 (by decide)
        obtain ⟨st', hB, hX, hY⟩ := sd_ins (pl := pl) (sv := sv) (pa := pa) (pt := pt) (rf := rf) (sz := sz) (bs := bs) (ce := ce) (py := py) (pr := pr) (fA := fA) (fB := fB) (fr := fr) (ou := ou) (un := un) (pg := pg) (ch := ch) (ys := ys) (yb := yb) (a := a) (n := n) (b := v2) h3 (n - a) n st (by omega) (Nat.le_refl _) R.2.1
        refine br_f h0 (br_t h2 (br_t h4 ⟨_, hX _ ?_⟩))
        refine br_f h0 (br_t h2 (br_t h4 ⟨_, hY _ ⟨rfl, ?_⟩⟩))
        exact sd_in (n := n + 1) (sd_R_st R h3 hB)
      · have h4 : ¬ nI n < 96 := nI_nlt (b := 96) (by omega) (by omega)
        exact br_f h0 (br_t h2 (br_f h4 (br_f h0 (br_t h2 (br_f h4 ⟨rfl, sd_in (n := n) R⟩)))))
    · have h2 : ¬ nI a ≤ nI n := nI_ge (by omega) ha
      exact br_f h0 (br_f h2 (br_f h0 (br_f h2 ⟨rfl, sd_in (n := n) R⟩)))
theorem i_vc_cut {k : Nat} {u : SX} {v : SY} (I : i_Rel k u v) (hk : k + 4 ≤ 2048) (v1 : Int32) (v2 : Int32) : wpX_cut (fun r u' => wpY_cut (fun r' v' => r' = r ∧ i_Rel (k + 4) u' v') v v1 v2) u v1 v2 := by
  refine sd_el (G := fun u v => wpX_cut (fun r u' => wpY_cut (fun r' v' => r' = r ∧ i_Rel (k + 4) u' v') v v1 v2) u v1 v2) I ?_
  intro n pl st sv pa pt rf sz bs ce py pr fA fB fr ou un pg ch ys yb P Q Z S C R
  have hn := R.1
  by_cases h0 : v1 < 0
  · exact br_t h0 (br_t h0 ⟨rfl, sd_in (n := n) R⟩)
  by_cases h1 : v2 < 0
  · exact br_f h0 (br_t h1 (br_f h0 (br_t h1 ⟨rfl, sd_in (n := n) R⟩)))
  obtain ⟨a, ha, rfl⟩ := nI_of h0
  obtain ⟨c, hc, rfl⟩ := nI_of h1
  by_cases h2 : n < a
  · have h2' : nI n < nI a := nI_lt h2 ha
    exact br_f h0 (br_f h1 (br_t h2' (br_f h0 (br_f h1 (br_t h2' ⟨rfl, sd_in (n := n) R⟩)))))
  have h2' : ¬ nI n < nI a := nI_nlt (by omega) (by omega)
  have e : nI n - nI a = nI (n - a) := pk_sub (by omega)
  by_cases h3 : c ≤ n - a
  · have h3' : nI c ≤ nI n - nI a := by rw [e]; exact nI_le h3 (by omega)
    obtain ⟨m, rfl⟩ : ∃ m, n = m + c := ⟨n - c, by omega⟩
    obtain ⟨st', hB, hX, hY⟩ := sd_cut (pl := pl) (sv := sv) (pa := pa) (pt := pt) (rf := rf) (sz := sz) (bs := bs) (ce := ce) (py := py) (pr := pr) (fA := fA) (fB := fB) (fr := fr) (ou := ou) (un := un) (pg := pg) (ch := ch) (ys := ys) (yb := yb) (c := c) (e := m) hn (m - a) a st (by omega) R.2.1
    refine br_f h0 (br_f h1 (br_f h2' (br_t h3' ⟨_, hX _ ?_⟩)))
    refine br_f h0 (br_f h1 (br_f h2' (br_t h3' ⟨_, hY _ ⟨rfl, ?_⟩⟩)))
    exact sd_in (n := m) (sd_R_st R (by omega) hB)
  · have h3' : ¬ nI c ≤ nI n - nI a := by rw [e]; exact nI_ge (by omega) hc
    exact br_f h0 (br_f h1 (br_f h2' (br_f h3' (br_f h0 (br_f h1 (br_f h2' (br_f h3' ⟨rfl, sd_in (n := n) R⟩)))))))
end
section
section
variable {sg pl : Int32} {st sv pa pt rf sz bs ce py pr fA fB fr ou un pg ch : Nat → Int32} {ys yb : Nat → Int32}
variable {n : Nat} {P : Nat → Nat} {Q : Nat → Nat → Nat} {Z S : Nat → Nat} {C : Nat → Nat → Int32}
theorem sd_Rsz (R : sd_R n st sv pa pt rf sz bs ce py ys yb P Q Z S C) {s : Nat} (hs : s < 6) : ∀ k, k < P s → sz (Q s k) = nI (S (Q s k)) :=
  fun k hk => (R.2.2.2.1 _ ((R.2.2.2.2 s hs).1.2.2.2.2 k hk).2.1 (sd_cnt_pos hs hk)).1.2.1
theorem sd_RL (R : sd_R n st sv pa pt rf sz bs ce py ys yb P Q Z S C) {s : Nat} (hs : s < 6) : ∀ k, k < P s → 0 < sd_cnt P Q (Q s k) := fun k hk => sd_cnt_pos hs hk
theorem sd_RZ (R : sd_R n st sv pa pt rf sz bs ce py ys yb P Q Z S C) {s : Nat} (hs : s < 6) : Z s ≤ 96 := (R.2.2.2.2 s hs).1.2.2.2.1
theorem sd_RB (R : sd_R n st sv pa pt rf sz bs ce py ys yb P Q Z S C) {s a : Nat} (hs : s < 6) (ha : a < Z s) : sd_B (yb (s * 96 + a)) := by
  obtain ⟨⟨h1, h2, h3, h4, h5⟩, _⟩ := R.2.2.2.2 s hs
  obtain ⟨k, hk, i, hi, rfl⟩ := sd_find (P s) (by rw [h3]; exact ha)
  obtain ⟨g1, g2, g3⟩ := h5 k hk
  have e : yb (s * 96 + (sd_off S (Q s) k + i)) = C (Q s k) i := g3 i hi
  rw [e]
  exact (R.2.2.2.1 _ g2 (sd_cnt_pos hs hk)).1.2.2.1 i hi
/-- length, by the relation -/
theorem sd_Rlen (R : sd_R n st sv pa pt rf sz bs ce py ys yb P Q Z S C) {post : Int32 → Prop} {s : Nat} (hs : s < 6) (h : ¬ sv s = 0) (K : post (nI (Z s))) : wpX_length post (nI n, pl, st, sv, pa, pt, rf, sz, bs, ce, py, pr, fA, fB, fr, ou, un, pg, ch) (nI s) :=
  sd_len_ok hs h (R.2.2.2.2 s hs).1 (sd_Rsz R hs) K
theorem sd_Rres (R : sd_R n st sv pa pt rf sz bs ce py ys yb P Q Z S C) {post : Int32 → SX → Prop} {m s a : Nat} {st2 : Nat → Int32} (hs : s < 6) (ha : a < Z s)
    (K : ∀ ou' un' ch' : Nat → Int32, post (yb (s * 96 + a)) (nI m, pl, st2, sv, pa, pt, rf, sz, bs, ce, py, pr, fA, fB, fr, ou', un', pg, ch')) : wpX_restored post (nI m, pl, st2, sv, pa, pt, rf, sz, bs, ce, py, pr, fA, fB, fr, ou, un, pg, ch) (nI s) (nI a) :=
  sd_res hs R.2.2.2.1 (R.2.2.2.2 s hs).1 (sd_RL R hs) ha K
/-- feedFrom's loop -/
theorem sd_xff (R : sd_R n st sv pa pt rf sz bs ce py ys yb P Q Z S C) {post : Int32 → SX → Prop} {s a m : Nat} (hs : s < 6) (ha : a + m ≤ Z s) (hm : n + m ≤ 96)
    (K : ∀ ou' un' ch' : Nat → Int32, post (nI (n + m)) (nI (n + m), pl, sd_fd st n (fun i => yb (s * 96 + (a + i))) m, sv, pa, pt, rf, sz, bs, ce, py, pr, fA, fB, fr, ou', un', pg, ch')) :
    ∀ (k i : Nat) (ou un ch : Nat → Int32), i ≤ m → m - i < k → wX_feedFrom_56 post (nI s) (nI a) (nI m) k (nI i) (nI (n + i)) pl (sd_fd st n (fun i => yb (s * 96 + (a + i))) i) sv pa pt rf sz bs ce py pr fA fB fr ou un pg ch := by
  intro k
  induction k with
  | zero => intro i ou un ch h1 h2; omega
  | succ k ih =>
    intro i ou un ch h1 h2
    refine pk_le m i (fun h => ?_) (fun h => ?_)
    · have e : i = m := by omega
      subst e
      exact K ou un ch
    · rw [nI_add]
      refine sd_Rres R hs (by omega) ?_
      intro ou' un' ch'
      refine sd_feed (n := n + i) (by omega) ?_
      refine nm_r (nI_1 _) ?_
      rw [sd_Band (sd_RB R hs (by omega))]
      exact ih (i + 1) ou' un' ch' (by omega) (by omega)
theorem sd_yff {post : Int32 → SY → Prop} {s a m : Nat} (hs : s < 6) (ha : a + m ≤ 96) (hm : n + m ≤ 96)
    (K : post (nI (n + m)) (nI (n + m), sd_fd st n (fun i => yb (s * 96 + (a + i))) m, sv, ys, yb)) :
    ∀ k i : Nat, i ≤ m → m - i < k → wY_feedFrom_64 post (nI s) (nI a) (nI m) (nI n) k (nI i) (sd_fd st n (fun i => yb (s * 96 + (a + i))) i) sv ys yb := by
  intro k
  induction k with
  | zero => intro i h1 h2; omega
  | succ k ih =>
    intro i h1 h2
    have e0 : nI s * 96 + nI a + nI i = nI (s * 96 + (a + i)) := by rw [sd_ix96, nI_add]; exact congrArg nI (by omega)
    refine pk_le m i (fun h => ?_) (fun h => ?_)
    · have e : i = m := by omega
      subst e
      exact nm_r (nI_add _ _) K
    · refine ⟨pk_in (s * 96 + (a + i)) 576 (by omega) e0, pk_in (n + i) 96 (by omega) (nI_add n i), ?_⟩
      refine nm_r (e' := upd (sd_fd st n (fun i => yb (s * 96 + (a + i))) i) (n + i) (yb (s * 96 + (a + i)))) (by rw [e0, nI_add, nI_clamp (by omega), nI_clamp (by omega)]) (nm_r (nI_1 _) ?_)
      exact ih (i + 1) (by omega) (by omega)
end
theorem i_vc_feedFrom {k : Nat} {u : SX} {v : SY} (I : i_Rel k u v) (hk : k + 4 ≤ 2048) (v1 : Int32) (v2 : Int32) (v3 : Int32) : wpX_feedFrom (fun r u' => wpY_feedFrom (fun r' v' => r' = r ∧ i_Rel (k + 4) u' v') v v1 v2 v3) u v1 v2 v3 := by
  refine sd_el (G := fun u v => wpX_feedFrom (fun r u' => wpY_feedFrom (fun r' v' => r' = r ∧ i_Rel (k + 4) u' v') v v1 v2 v3) u v1 v2 v3) I ?_
  intro n pl st sv pa pt rf sz bs ce py pr fA fB fr ou un pg ch ys yb P Q Z S C R
  have hn := R.1
  unfold wpX_feedFrom wpY_feedFrom
  by_cases hx : sd_sl v1
  · obtain ⟨s, hs, rfl⟩ := hx
    by_cases hv : sv s = 0
    · refine sd_len_no hs hv (br_f (by decide) ?_)
      exact sd_ym_no hs hv (br_f (by decide) ⟨rfl, sd_in (n := n) R⟩)
    · have hz := sd_RZ R hs
      have ey := (R.2.2.2.2 s hs).2.2 hv
      have ec : ys (nI s).toNatClampNeg = nI (Z s) := by rw [nI_clamp (by omega)]; exact ey
      refine sd_Rlen R hs hv (br_t (nI_pos' (by omega)) ?_)
      by_cases h1 : v2 < 0
      · exact br_t h1 (sd_ym_ok hs hv (br_t rfl (br_t h1 ⟨rfl, sd_in (n := n) R⟩)))
      refine br_f h1 ?_
      by_cases h2 : v3 < 0
      · exact br_t h2 (sd_ym_ok hs hv (br_t rfl (br_f h1 (br_t h2 ⟨rfl, sd_in (n := n) R⟩))))
      refine br_f h2 ?_
      obtain ⟨a, ha, rfl⟩ := nI_of h1
      obtain ⟨m, hm, rfl⟩ := nI_of h2
      have hs6 : vp_in (nI s) 6 := vp_in_nI hs (by decide)
      by_cases h3 : Z s < a
      · have h3' : nI (Z s) < nI a := nI_lt h3 ha
        refine br_t h3' (sd_ym_ok hs hv (br_t rfl (br_f h1 (br_f h2 ⟨hs6, br_t ?_ ⟨rfl, sd_in (n := n) R⟩⟩))))
        rw [ec]; exact h3'
      have h3' : ¬ nI (Z s) < nI a := nI_nlt (by omega) (by omega)
      have h3c : ¬ ys (nI s).toNatClampNeg < nI a := by rw [ec]; exact h3'
      have es : nI (Z s) - nI a = nI (Z s - a) := pk_sub (by omega)
      refine br_f h3' ?_
      by_cases h4 : m ≤ Z s - a
      · have h4' : nI m ≤ nI (Z s) - nI a := by rw [es]; exact nI_le h4 (by omega)
        have h4c : nI m ≤ ys (nI s).toNatClampNeg - nI a := by rw [ec]; exact h4'
        refine br_t h4' ?_
        by_cases h5 : m ≤ 96 - n
        · have h5' : nI m ≤ 96 - nI n := by rw [sd_rest hn]; exact nI_le h5 (by omega)
          refine br_t h5' ⟨m + 1, sd_xff R hs (by omega) (by omega) ?_ (m + 1) 0 ou un ch (by omega) (by omega)⟩
          intro ou' un' ch'
          refine sd_ym_ok hs hv (br_t rfl (br_f h1 (br_f h2 ⟨hs6, br_f h3c ⟨hs6, br_t h4c (br_t h5' ⟨m + 1, sd_yff hs (by omega) (by omega) ?_ (m + 1) 0 (by omega) (by omega)⟩)⟩⟩)))
          exact ⟨rfl, sd_in (n := n + m) (sd_R_st R (by omega) (sd_fdB R.2.1 m (fun i hi => sd_RB R hs (by omega))))⟩
        · have h5' : ¬ nI m ≤ 96 - nI n := by rw [sd_rest hn]; exact nI_ge (by omega) hm
          exact br_f h5' (sd_ym_ok hs hv (br_t rfl (br_f h1 (br_f h2 ⟨hs6, br_f h3c ⟨hs6, br_t h4c (br_f h5' ⟨rfl, sd_in (n := n) R⟩)⟩⟩))))
      · have h4' : ¬ nI m ≤ nI (Z s) - nI a := by rw [es]; exact nI_ge (by omega) hm
        have h4c : ¬ nI m ≤ ys (nI s).toNatClampNeg - nI a := by rw [ec]; exact h4'
        exact br_f h4' (sd_ym_ok hs hv (br_t rfl (br_f h1 (br_f h2 ⟨hs6, br_f h3c ⟨hs6, br_f h4c ⟨rfl, sd_in (n := n) R⟩⟩⟩))))
  · refine sd_len_bad hx (br_f (by decide) ?_)
    exact sd_ym_bad hx (br_f (by decide) ⟨rfl, sd_in (n := n) R⟩)
theorem i_vc_length {k : Nat} {u : SX} {v : SY} (I : i_Rel k u v) (hk : k + 4 ≤ 2048) (v1 : Int32) : wpX_length (fun r => wpY_length (fun r' => r' = r ∧ i_Rel (k + 4) u v) v v1) u v1 := by
  refine sd_el (G := fun u v => wpX_length (fun r => wpY_length (fun r' => r' = r ∧ i_Rel (k + 4) u v) v v1) u v1) I ?_
  intro n pl st sv pa pt rf sz bs ce py pr fA fB fr ou un pg ch ys yb P Q Z S C R
  unfold wpY_length
  by_cases hx : sd_sl v1
  · obtain ⟨s, hs, rfl⟩ := hx
    by_cases hv : sv s = 0
    · exact sd_len_no hs hv (sd_ym_no hs hv (br_f (by decide) ⟨rfl, sd_in (n := n) R⟩))
    · have ey := (R.2.2.2.2 s hs).2.2 hv
      have ec : ys (nI s).toNatClampNeg = nI (Z s) := by rw [nI_clamp (by omega)]; exact ey
      exact sd_Rlen R hs hv (sd_ym_ok hs hv (br_t rfl ⟨vp_in_nI hs (by decide), ec, sd_in (n := n) R⟩))
  · exact sd_len_bad hx (sd_ym_bad hx (br_f (by decide) ⟨rfl, sd_in (n := n) R⟩))
theorem i_vc_byteAt {k : Nat} {u : SX} {v : SY} (I : i_Rel k u v) (hk : k + 4 ≤ 2048) (v1 : Int32) (v2 : Int32) : wpX_byteAt (fun r u' => wpY_byteAt (fun r' => r' = r ∧ i_Rel (k + 4) u' v) v v1 v2) u v1 v2 := by
  refine sd_el (G := fun u v => wpX_byteAt (fun r u' => wpY_byteAt (fun r' => r' = r ∧ i_Rel (k + 4) u' v) v v1 v2) u v1 v2) I ?_
  intro n pl st sv pa pt rf sz bs ce py pr fA fB fr ou un pg ch ys yb P Q Z S C R
  unfold wpX_byteAt wpY_byteAt
  by_cases hx : sd_sl v1
  · obtain ⟨s, hs, rfl⟩ := hx
    by_cases hv : sv s = 0
    · refine sd_len_no hs hv (br_f (by decide) ?_)
      exact sd_ym_no hs hv (br_f (by decide) ⟨rfl, sd_in (n := n) R⟩)
    · have hz := sd_RZ R hs
      have ey := (R.2.2.2.2 s hs).2.2 hv
      have ec : ys (nI s).toNatClampNeg = nI (Z s) := by rw [nI_clamp (by omega)]; exact ey
      have hs6 : vp_in (nI s) 6 := vp_in_nI hs (by decide)
      refine sd_Rlen R hs hv (br_t (nI_pos' (by omega)) ?_)
      by_cases h1 : v2 < 0
      · exact br_t h1 (sd_ym_ok hs hv (br_t rfl (br_t h1 ⟨rfl, sd_in (n := n) R⟩)))
      refine br_f h1 ?_
      obtain ⟨a, ha, rfl⟩ := nI_of h1
      by_cases h2 : a < Z s
      · have h2' : nI a < nI (Z s) := nI_lt h2 (by omega)
        refine br_t h2' (sd_Rres R hs h2 ?_)
        intro ou' un' ch'
        refine sd_ym_ok hs hv (br_t rfl (br_f h1 ⟨hs6, br_t (by rw [ec]; exact h2') ⟨pk_in (s * 96 + a) 576 (by omega) (sd_ix96 s a), ?_, sd_in (n := n) R⟩⟩))
        rw [sd_ix96, nI_clamp (by omega)]
      · have h2' : ¬ nI a < nI (Z s) := nI_nlt (by omega) ha
        exact br_f h2' (sd_ym_ok hs hv (br_t rfl (br_f h1 ⟨hs6, br_f (by rw [ec]; exact h2') ⟨rfl, sd_in (n := n) R⟩⟩)))
  · refine sd_len_bad hx (br_f (by decide) ?_)
    exact sd_ym_bad hx (br_f (by decide) ⟨rfl, sd_in (n := n) R⟩)
/-- the sum over the first i bytes -/
def sd_hs (F : Nat → Int32) : Nat → Int32
  | 0 => 7
  | i + 1 => sd_hs F i * 131 + F i
section
variable {sg pl : Int32} {st sv pa pt rf sz bs ce py pr fA fB fr ou un pg ch : Nat → Int32} {ys yb : Nat → Int32}
theorem sd_xs55 {post : Int32 → SX → Prop} {J : Int32 → Int32 → Int32 → Int32 → (Nat → Int32) → (Nat → Int32) → (Nat → Int32) → (Nat → Int32) → (Nat → Int32) → (Nat → Int32) → (Nat → Int32) → (Nat → Int32) → (Nat → Int32) → (Nat → Int32) → (Nat → Int32) → (Nat → Int32) → (Nat → Int32) → (Nat → Int32) → (Nat → Int32) → (Nat → Int32) → (Nat → Int32) → Prop}
    {x1 : Int32} {q k o l : Nat} {F : Nat → Int32} (hq : q < 96) (hl : l ≤ 16) (hsz : sz q = nI l) (ho : ∀ j, j < l → ou j = F (o + j))
    (K : J (sd_hs F (o + l)) (nI (k + 1)) sg pl st sv pa pt rf sz bs ce py pr fA fB fr ou un pg ch) : ∀ n i : Nat, i ≤ l → l - i < n → wX_sum_55 post J x1 (nI k) (nI q) sg pl st sv pa pt rf sz bs ce py pr fA fB fr ou un pg ch n (sd_hs F (o + i)) (nI i) := by
  intro n
  induction n with
  | zero => intro i h1 h2; omega
  | succ n ih =>
    intro i h1 h2
    refine And.intro (vp_in_nI hq (by decide)) ?_
    refine pk_le l i (fun h => ?_) (fun h => ?_) (by rw [nI_clamp (by omega)]; exact hsz)
    · have e : i = l := by omega
      subst e
      exact nm_r (nI_1 _) K
    · refine ⟨vp_in_nI (by omega) (by decide), nm_r (e' := sd_hs F (o + (i + 1))) ?_ (nm_r (nI_1 _) ?_)⟩
      · rw [nI_clamp (by omega), ho i h]; rfl
      · exact ih (i + 1) (by omega) (by omega)
theorem sd_xs23 {post : Int32 → SX → Prop} {L : Nat → Prop} {S : Nat → Nat} {C : Nat → Nat → Int32} {s p z : Nat} {q : Nat → Nat} {F : Nat → Int32} (hs : s < 6)
    (T : sd_St L S C sz bs ce py) (H : sd_Sl S C pa pt s p q F z) (hL : ∀ k, k < p → L (q k))
    (K : ∀ ou' un' ch' : Nat → Int32, post (sd_hs F z) (sg, pl, st, sv, pa, pt, rf, sz, bs, ce, py, pr, fA, fB, fr, ou', un', pg, ch')) :
    ∀ (n k : Nat) (ou un ch : Nat → Int32), k ≤ p → p - k < n → wX_sum_23 post (nI s) n (sd_hs F (sd_off S q k)) (nI k) sg pl st sv pa pt rf sz bs ce py pr fA fB fr ou un pg ch := by
  obtain ⟨H1, H2, H3, H4, H5⟩ := H
  intro n
  induction n with
  | zero => intro k ou un ch h1 h2; omega
  | succ n ih =>
    intro k ou un ch h1 h2
    refine And.intro (vp_in_nI hs (by decide)) ?_
    refine pk_le p k (fun h => ?_) (fun h => ?_) (by rw [nI_clamp (by omega)]; exact H2)
    · have e : k = p := by omega
      subst e
      rw [H3]
      exact K ou un ch
    · obtain ⟨g1, g2, g3⟩ := H5 k h
      have hk := (T _ g2 (hL k h)).1
      refine ⟨pk_in (s * 16 + k) 96 (by omega) (sd_ix s k), nm_r (e' := nI (q k)) (by rw [sd_ix, nI_clamp (by omega)]; exact g1) ?_⟩
      refine sd_wo T g2 (hL k h) ?_
      intro ou' un' ch' ho
      refine Exists.intro (S (q k) + 1) ?_
      refine sd_xs55 (o := sd_off S q k) (F := F) g2 hk.1 hk.2.1 (fun j hj => (ho j hj).trans (g3 j hj).symm) ?_ (S (q k) + 1) 0 (by omega) (by omega)
      exact ih (k + 1) ou' un' ch' (by omega) (by omega)
theorem sd_ys15 {post : Int32 → Prop} {s z : Nat} (hs : s < 6) (hz : z ≤ 96) (hy : ys s = nI z) (K : post (sd_hs (fun i => yb (s * 96 + i)) z)) :
    ∀ n i : Nat, i ≤ z → z - i < n → wY_sum_15 post (nI s) sg st sv ys yb n (sd_hs (fun i => yb (s * 96 + i)) i) (nI i) := by
  intro n
  induction n with
  | zero => intro i h1 h2; omega
  | succ n ih =>
    intro i h1 h2
    refine And.intro (vp_in_nI hs (by decide)) ?_
    refine pk_le z i (fun h => ?_) (fun h => ?_) (by rw [nI_clamp (by omega)]; exact hy)
    · have e : i = z := by omega
      subst e
      exact K
    · refine ⟨pk_in (s * 96 + i) 576 (by omega) (sd_ix96 s i), nm_r (e' := sd_hs (fun i => yb (s * 96 + i)) (i + 1)) ?_ (nm_r (nI_1 _) ?_)⟩
      · rw [sd_ix96, nI_clamp (by omega)]; rfl
      · exact ih (i + 1) (by omega) (by omega)
end
theorem i_vc_sum {k : Nat} {u : SX} {v : SY} (I : i_Rel k u v) (hk : k + 4 ≤ 2048) (v1 : Int32) : wpX_sum (fun r u' => wpY_sum (fun r' => r' = r ∧ i_Rel (k + 4) u' v) v v1) u v1 := by
  refine sd_el (G := fun u v => wpX_sum (fun r u' => wpY_sum (fun r' => r' = r ∧ i_Rel (k + 4) u' v) v v1) u v1) I ?_
  intro n pl st sv pa pt rf sz bs ce py pr fA fB fr ou un pg ch ys yb P Q Z S C R
  unfold wpX_sum wpY_sum
  by_cases hx : sd_sl v1
  · obtain ⟨s, hs, rfl⟩ := hx
    have hs6 : vp_in (nI s) 6 := vp_in_nI hs (by decide)
    have ecl : (nI s).toNatClampNeg = s := nI_clamp (by omega)
    refine sd_bad_f hs (br_t rfl ⟨hs6, ?_⟩)
    rw [ecl]
    by_cases hv : sv s = 0
    · refine br_t hv ?_
      exact sd_ym_no hs hv (br_f (by decide) ⟨rfl, sd_in (n := n) R⟩)
    · have ey := (R.2.2.2.2 s hs).2.2 hv
      refine br_f hv ⟨P s + 1, ?_⟩
      refine sd_xs23 hs R.2.2.2.1 (R.2.2.2.2 s hs).1 (sd_RL R hs) ?_ (P s + 1) 0 ou un ch (by omega) (by omega)
      intro ou' un' ch'
      refine sd_ym_ok hs hv (br_t rfl ⟨Z s + 1, ?_⟩)
      refine sd_ys15 hs (sd_RZ R hs) ey ?_ (Z s + 1) 0 (by omega) (by omega)
      exact ⟨rfl, sd_in (n := n) R⟩
  · refine sd_bad_t hx (br_f (by decide) ?_)
    exact sd_ym_bad hx (br_f (by decide) ⟨rfl, sd_in (n := n) R⟩)
end
section
/-- r is the length of the common start of A and B within m -/
def sd_CP (A B : Nat → Int32) (m r : Nat) : Prop := r ≤ m ∧ (∀ j, j < r → A j = B j) ∧ (r < m → ¬ A r = B r)
section
variable {sg pl : Int32} {st sv pa pt rf sz bs ce py pr fA fB fr ou un pg ch : Nat → Int32} {ys yb : Nat → Int32}
variable {n : Nat} {P : Nat → Nat} {Q : Nat → Nat → Nat} {Z S : Nat → Nat} {C : Nat → Nat → Int32}
theorem sd_cs151 (R : sd_R n st sv pa pt rf sz bs ce py ys yb P Q Z S C) {post : Int32 → SX → Prop} {a b m : Nat} (ha : a < 6) (hb : b < 6) (hma : m ≤ Z a) (hmb : m ≤ Z b)
    (K : ∀ (r : Nat) (ou' un' ch' : Nat → Int32), sd_CP (fun i => yb (a * 96 + i)) (fun i => yb (b * 96 + i)) m r → post (nI r) (nI n, pl, st, sv, pa, pt, rf, sz, bs, ce, py, pr, fA, fB, fr, ou', un', pg, ch')) :
    ∀ (k i : Nat) (ou un ch : Nat → Int32), i ≤ m → m - i < k → (∀ j, j < i → yb (a * 96 + j) = yb (b * 96 + j)) → wX_commonStart_151 post (nI a) (nI b) (nI m) k (nI i) (nI n) pl st sv pa pt rf sz bs ce py pr fA fB fr ou un pg ch := by
  have hz := sd_RZ R ha
  intro k
  induction k with
  | zero => intro i ou un ch h1 h2; omega
  | succ k ih =>
    intro i ou un ch h1 h2 he
    refine pk_le m i (fun h => ?_) (fun h => ?_)
    · have e : i = m := by omega
      subst e
      exact K i ou un ch ⟨Nat.le_refl _, he, fun h => absurd h (Nat.lt_irrefl _)⟩
    · refine sd_Rres R ha (by omega) ?_
      intro ou1 un1 ch1
      refine sd_Rres R hb (by omega) ?_
      intro ou2 un2 ch2
      refine br_c (fun e => nm_r (nI_1 _) ?_) (fun e => ?_)
      · refine ih (i + 1) ou2 un2 ch2 (by omega) (by omega) (fun j hj => ?_)
        by_cases ej : j = i
        · subst ej; exact e
        · exact he j (by omega)
      · exact K i ou2 un2 ch2 ⟨h1, he, fun _ => e⟩
theorem sd_cs118 (R : sd_R n st sv pa pt rf sz bs ce py ys yb P Q Z S C) {post : Int32 → SX → Prop} {a b m i : Nat} (ha : a < 6) (hb : b < 6) (hva : ¬ sv a = 0) (hvb : ¬ sv b = 0)
    (hm : m = if Z b ≤ Z a then Z b else Z a)
    (K : ∀ (r : Nat) (ou' un' ch' : Nat → Int32), sd_CP (fun i => yb (a * 96 + i)) (fun i => yb (b * 96 + i)) m r → post (nI r) (nI n, pl, st, sv, pa, pt, rf, sz, bs, ce, py, pr, fA, fB, fr, ou', un', pg, ch'))
    (hi : i ≤ m) (he : ∀ j, j < i → yb (a * 96 + j) = yb (b * 96 + j)) : wX_commonStart_118 post (nI a) (nI b) (nI i) (nI n) pl st sv pa pt rf sz bs ce py pr fA fB fr ou un pg ch := by
  have hza := sd_RZ R ha
  have hzb := sd_RZ R hb
  unfold wX_commonStart_118
  refine sd_Rlen R ha hva ?_
  refine sd_Rlen R hb hvb ?_
  refine pk_le (Z b) (Z a) (fun h => ?_) (fun h => ?_)
  · rw [if_pos h] at hm
    rw [← hm]
    exact ⟨m + 1, sd_cs151 R ha hb (by omega) (by omega) K (m + 1) i ou un ch hi (by omega) he⟩
  · rw [if_neg (by omega)] at hm
    rw [← hm]
    exact ⟨m + 1, sd_cs151 R ha hb (by omega) (by omega) K (m + 1) i ou un ch hi (by omega) he⟩
theorem sd_off_cong {q q' : Nat → Nat} : ∀ k : Nat, (∀ j, j < k → q j = q' j) → sd_off S q k = sd_off S q' k := by
  intro k
  induction k with
  | zero => intro _; rfl
  | succ k ih =>
    intro h
    show sd_off S q k + S (q k) = sd_off S q' k + S (q' k)
    rw [ih (fun j hj => h j (by omega)), h k (by omega)]
theorem sd_off_le {q : Nat → Nat} : ∀ a b : Nat, a ≤ b → sd_off S q a ≤ sd_off S q b := by
  intro a b
  induction b with
  | zero => intro h; have e : a = 0 := by omega
            subst e; exact Nat.le_refl _
  | succ b ih =>
    intro h
    by_cases e : a = b + 1
    · subst e; exact Nat.le_refl _
    · exact Nat.le_trans (ih (by omega)) (Nat.le_add_right _ _)
theorem sd_cs43 (R : sd_R n st sv pa pt rf sz bs ce py ys yb P Q Z S C) {post : Int32 → SX → Prop} {a b m : Nat} (ha : a < 6) (hb : b < 6) (hva : ¬ sv a = 0) (hvb : ¬ sv b = 0)
    (hm : m = if Z b ≤ Z a then Z b else Z a)
    (K : ∀ (r : Nat) (ou' un' ch' : Nat → Int32), sd_CP (fun i => yb (a * 96 + i)) (fun i => yb (b * 96 + i)) m r → post (nI r) (nI n, pl, st, sv, pa, pt, rf, sz, bs, ce, py, pr, fA, fB, fr, ou', un', pg, ch')) :
    ∀ k i : Nat, i ≤ P a → i ≤ P b → P a - i < k → (∀ j, j < i → Q a j = Q b j) → wX_commonStart_43 post (nI a) (nI b) (nI n) pl st sv pa pt rf sz bs ce py pr fA fB fr ou un pg ch k (nI (sd_off S (Q a) i)) (nI i) := by
  obtain ⟨A1, A2, A3, A4, A5⟩ := (R.2.2.2.2 a ha).1
  obtain ⟨B1, B2, B3, B4, B5⟩ := (R.2.2.2.2 b hb).1
  have out : ∀ i : Nat, i ≤ P a → i ≤ P b → (∀ j, j < i → Q a j = Q b j) → wX_commonStart_118 post (nI a) (nI b) (nI (sd_off S (Q a) i)) (nI n) pl st sv pa pt rf sz bs ce py pr fA fB fr ou un pg ch := by
    intro i h1 h2 he
    have e1 := sd_off_le (S := S) (q := Q a) i (P a) h1
    have e2 := sd_off_le (S := S) (q := Q b) i (P b) h2
    rw [← sd_off_cong i he] at e2
    refine sd_cs118 R ha hb hva hvb hm K ?_ ?_
    · rw [hm]; split <;> omega
    · intro j hj
      obtain ⟨x, hx, y, hy, rfl⟩ := sd_find i hj
      have g1 := (A5 x (by omega)).2.2 y hy
      have g2 := (B5 x (by omega)).2.2 y (by rw [← he x hx]; exact hy)
      rw [← sd_off_cong x (fun j hj => he j (by omega)), ← he x hx] at g2
      exact g1.trans g2.symm
  intro k
  induction k with
  | zero => intro i h1 h2 h3; omega
  | succ k ih =>
    intro i h1 h2 h3 he
    refine And.intro (vp_in_nI ha (by decide)) ?_
    refine pk_le (P a) i (fun h => out i h1 h2 he) (fun h => ?_) (by rw [nI_clamp (by omega)]; exact A2)
    refine ⟨vp_in_nI hb (by decide), ?_⟩
    refine pk_le (P b) i (fun h' => out i h1 h2 he) (fun h' => ?_) (by rw [nI_clamp (by omega)]; exact B2)
    obtain ⟨a1, a2, a3⟩ := A5 i h
    obtain ⟨b1, b2, b3⟩ := B5 i h'
    have hk := (R.2.2.2.1 _ a2 (sd_cnt_pos ha h)).1
    rw [sd_ix a i, sd_ix b i, nI_clamp (n := a * 16 + i) (by omega), nI_clamp (n := b * 16 + i) (by omega), a1, b1, nI_clamp (n := Q a i) (by omega), hk.2.1]
    refine ⟨vp_in_nI (by omega) (by decide), vp_in_nI (by omega) (by decide), ?_⟩
    refine pk_eq (Q a i) (Q b i) (fun e => ?_) (fun e => out i h1 h2 he)
    refine ⟨vp_in_nI (by omega) (by decide), vp_in_nI a2 (by decide), nm_r (nI_add _ _) (nm_r (nI_1 _) ?_)⟩
    refine ih (i + 1) (by omega) (by omega) (by omega) (fun j hj => ?_)
    by_cases ej : j = i
    · subst ej; exact e
    · exact he j (by omega)
theorem sd_yc47 {post : Int32 → Prop} {a b za zb r : Nat} (ha : a < 6) (hb : b < 6) (hza : za ≤ 96) (hzb : zb ≤ 96) (hya : ys a = nI za) (hyb : ys b = nI zb)
    (hr : sd_CP (fun i => yb (a * 96 + i)) (fun i => yb (b * 96 + i)) (if zb ≤ za then zb else za) r) (K : post (nI r)) :
    ∀ k i w : Nat, i ≤ 96 → 96 - i < k → (i ≤ r → w = i) → (r ≤ i → w = r) → wY_commonStart_47 post (nI a) (nI b) sg st sv ys yb k (nI w) (nI i) := by
  obtain ⟨r1, r2, r3⟩ := hr
  have hra : r ≤ za ∧ r ≤ zb := by
    by_cases h : zb ≤ za
    · rw [if_pos h] at r1; omega
    · rw [if_neg h] at r1; omega
  have r3' : r < za → r < zb → ¬ yb (a * 96 + r) = yb (b * 96 + r) := by
    intro h1 h2
    refine r3 ?_
    split <;> omega
  intro k
  induction k with
  | zero => intro i w h1 h2; omega
  | succ k ih =>
    intro i w h1 h2 hw1 hw2
    refine pk_le 96 i (fun h => ?_) (fun h => ?_)
    · have e : w = r := hw2 (by omega)
      rw [e]
      exact K
    · have hw : w ≤ 96 := by
        by_cases hc : i ≤ r
        · have := hw1 hc; omega
        · have := hw2 (by omega); omega
      refine pk_eq w i (fun e => ?_) (fun e => nm_r (nI_1 _) ?_)
      · have hir : i ≤ r := by
          apply Classical.byContradiction
          intro hc
          have := hw2 (by omega)
          omega
        refine ⟨vp_in_nI ha (by decide), ?_⟩
        refine pk_le za i (fun h3 => nm_r (nI_1 _) ?_) (fun h3 => ?_) (by rw [nI_clamp (by omega)]; exact hya)
        · exact ih (i + 1) w (by omega) (by omega) (fun _ => by omega) (fun _ => by omega)
        · refine ⟨vp_in_nI hb (by decide), ?_⟩
          refine pk_le zb i (fun h4 => nm_r (nI_1 _) ?_) (fun h4 => ?_) (by rw [nI_clamp (by omega)]; exact hyb)
          · exact ih (i + 1) w (by omega) (by omega) (fun _ => by omega) (fun _ => by omega)
          · refine ⟨pk_in (a * 96 + i) 576 (by omega) (sd_ix96 a i), pk_in (b * 96 + i) 576 (by omega) (sd_ix96 b i), ?_⟩
            rw [sd_ix96, sd_ix96, nI_clamp (n := a * 96 + i) (by omega), nI_clamp (n := b * 96 + i) (by omega)]
            refine br_c (fun g => nm_r (nI_1 _) (nm_r (nI_1 _) ?_)) (fun g => nm_r (nI_1 _) ?_)
            · have hne : ¬ r = i := fun z => r3' (by omega) (by omega) (by rw [z]; exact g)
              exact ih (i + 1) (w + 1) (by omega) (by omega) (fun _ => by omega) (fun _ => by omega)
            · have hne : ¬ i < r := fun z => g (r2 i z)
              exact ih (i + 1) w (by omega) (by omega) (fun _ => by omega) (fun _ => by omega)
      · have hir : r < i := by
          apply Classical.byContradiction
          intro hc
          exact e (hw1 (by omega))
        exact ih (i + 1) w (by omega) (by omega) (fun _ => by omega) (fun _ => hw2 (by omega))
end
theorem i_vc_commonStart {k : Nat} {u : SX} {v : SY} (I : i_Rel k u v) (hk : k + 4 ≤ 2048) (v1 : Int32) (v2 : Int32) : wpX_commonStart (fun r u' => wpY_commonStart (fun r' => r' = r ∧ i_Rel (k + 4) u' v) v v1 v2) u v1 v2 := by
  refine sd_el (G := fun u v => wpX_commonStart (fun r u' => wpY_commonStart (fun r' => r' = r ∧ i_Rel (k + 4) u' v) v v1 v2) u v1 v2) I ?_
  intro n pl st sv pa pt rf sz bs ce py pr fA fB fr ou un pg ch ys yb P Q Z S C R
  unfold wpX_commonStart wpY_commonStart
  by_cases hx : sd_sl v1
  · obtain ⟨a, ha, rfl⟩ := hx
    have ecA : (nI a).toNatClampNeg = a := nI_clamp (by omega)
    refine sd_bad_f ha (br_t rfl ?_)
    by_cases hy : sd_sl v2
    · obtain ⟨b, hb, rfl⟩ := hy
      have ecB : (nI b).toNatClampNeg = b := nI_clamp (by omega)
      refine sd_bad_f hb (br_t rfl ⟨vp_in_nI ha (by decide), ?_⟩)
      rw [ecA, ecB]
      by_cases hva : sv a = 0
      · refine br_t hva (sd_ym_no ha hva ?_)
        by_cases hvb : sv b = 0
        · exact sd_ym_no hb hvb (br_f (by decide) (br_f (by decide) (br_f (by decide) ⟨rfl, sd_in (n := n) R⟩)))
        · exact sd_ym_ok hb hvb (br_f (by decide) (br_f (by decide) (br_f (by decide) ⟨rfl, sd_in (n := n) R⟩)))
      · refine br_f hva ⟨vp_in_nI hb (by decide), ?_⟩
        by_cases hvb : sv b = 0
        · refine br_t hvb (sd_ym_ok ha hva (sd_ym_no hb hvb ?_))
          exact br_f (by decide) (br_f (by decide) (br_t rfl (br_f (by decide) ⟨rfl, sd_in (n := n) R⟩)))
        · refine br_f hvb ⟨P a + 1, ?_⟩
          refine sd_cs43 R ha hb hva hvb rfl ?_ (P a + 1) 0 (by omega) (by omega) (by omega) (fun j hj => absurd hj (Nat.not_lt_zero _))
          intro r ou' un' ch' hr
          refine sd_ym_ok ha hva (sd_ym_ok hb hvb ?_)
          refine br_f (by decide) (br_f (by decide) (br_t rfl (br_t rfl ⟨97, ?_⟩)))
          refine sd_yc47 ha hb (sd_RZ R ha) (sd_RZ R hb) ((R.2.2.2.2 a ha).2.2 hva) ((R.2.2.2.2 b hb).2.2 hvb) hr ?_ 97 0 0 (by omega) (by omega) (fun _ => rfl) (fun _ => by omega)
          exact ⟨rfl, sd_in (n := n) R⟩
    · refine sd_bad_t hy (br_f (by decide) ?_)
      by_cases hva : sv a = 0
      · exact sd_ym_no ha hva (sd_ym_bad hy (br_f (by decide) (br_t rfl ⟨rfl, sd_in (n := n) R⟩)))
      · exact sd_ym_ok ha hva (sd_ym_bad hy (br_f (by decide) (br_t rfl ⟨rfl, sd_in (n := n) R⟩)))
  · refine sd_bad_t hx (br_f (by decide) (sd_ym_bad hx ?_))
    by_cases hy : sd_sl v2
    · obtain ⟨b, hb, rfl⟩ := hy
      by_cases hvb : sv b = 0
      · exact sd_ym_no hb hvb (br_t rfl ⟨rfl, sd_in (n := n) R⟩)
      · exact sd_ym_ok hb hvb (br_t rfl ⟨rfl, sd_in (n := n) R⟩)
    · exact sd_ym_bad hy (br_t rfl ⟨rfl, sd_in (n := n) R⟩)
end
section
theorem sd_St_iff {L L' : Nat → Prop} {S : Nat → Nat} {C : Nat → Nat → Int32} {sz bs ce py : Nat → Int32} (H : sd_St L S C sz bs ce py) (h : ∀ x, x < 96 → (L x ↔ L' x)) : sd_St L' S C sz bs ce py := by
  intro x hx hl
  obtain ⟨⟨h1, h2, h3, h4⟩, h5⟩ := H x hx ((h x hx).mpr hl)
  refine ⟨⟨h1, h2, h3, ?_⟩, h5⟩
  rcases h4 with h4 | ⟨b, g1, g2, g3⟩
  · exact Or.inl h4
  · exact Or.inr ⟨b, g1, (h b g1).mp g2, g3⟩
theorem sd_Prg_cong {q q' D : Nat → Int32} {d : Nat} {E : Nat → Int32} {e c : Nat} {P : Nat → Nat} (h : ∀ p, p < c → q' p = q p) (H : sd_Prg q D d E e c P) : sd_Prg q' D d E e c P := by
  obtain ⟨h1, h2, h3⟩ := H
  refine ⟨h1, h2, fun p hp => ?_⟩
  have g := h3 p hp
  unfold sd_Stp at g ⊢
  rw [h p hp]
  exact g
/-- only the payload of chunk d has changed -/
def sd_fr (d : Nat) (py py' : Nat → Int32) : Prop := ∀ x j : Nat, x ≠ d → j < 16 → py' (x * 16 + j) = py (x * 16 + j)
theorem sd_fr_u {d i : Nat} {py py' : Nat → Int32} {v : Int32} (hi : i < 16) (h : sd_fr d (upd py (d * 16 + i) v) py') : sd_fr d py py' := by
  intro x j hx hj
  rw [h x j hx hj, pk_un (by omega)]
theorem sd_fr_r {d : Nat} {py : Nat → Int32} : sd_fr d py py := fun _ _ _ _ => rfl
/-- chunk d made raw -/
theorem sd_St_raw {L : Nat → Prop} {S : Nat → Nat} {C : Nat → Nat → Int32} {sz bs ce py py' : Nat → Int32} {d : Nat} {v : Int32} (H : sd_St L S C sz bs ce py) (hd : d < 96) (hL : L d)
    (hf : sd_fr d py py') (hp : ∀ j, j < S d → py' (d * 16 + j) = C d j) : sd_St L S C sz (upd bs d 0) (upd ce d v) py' := by
  intro x hx hl
  obtain ⟨⟨h1, h2, h3, h4⟩, h5⟩ := H x hx hl
  by_cases e : x = d
  · subst e
    exact ⟨⟨h1, h2, h3, Or.inl ⟨pk_us, hp⟩⟩, Or.inl pk_us⟩
  · refine ⟨⟨h1, h2, h3, ?_⟩, sd_Dp_zero 2 x h5⟩
    rcases h4 with ⟨g1, g2⟩ | ⟨b, g1, g2, g3, c, P, g4, g5, g6⟩
    · exact Or.inl ⟨(pk_un e).trans g1, fun i hi => (hf x i e (by omega)).trans (g2 i hi)⟩
    · exact Or.inr ⟨b, g1, g2, (pk_un e).trans g3, c, P, g4, (pk_un e).trans g5, sd_Prg_cong (fun p hp => hf x p e (by omega)) g6⟩
/-- chunk id dropped: nothing that lives is kept against it -/
theorem sd_St_drop {L L' : Nat → Prop} {S : Nat → Nat} {C : Nat → Nat → Int32} {sz bs ce py : Nat → Int32} {id : Nat} (hid : id < 96) (H : sd_St L S C sz bs ce py) (h1 : ∀ x, x < 96 → L' x → L x ∧ x ≠ id)
    (h2 : ∀ x, x < 96 → L' x → ¬ bs x = nI (id + 1)) (h3 : ∀ x, x < 96 → L x → x ≠ id → L' x) : sd_St L' S C sz (upd bs id 0) ce py := by
  intro x hx hl
  obtain ⟨k1, k2⟩ := h1 x hx hl
  obtain ⟨⟨g1, g2, g3, g4⟩, g5⟩ := H x hx k1
  refine ⟨⟨g1, g2, g3, ?_⟩, sd_Dp_zero 2 x g5⟩
  rcases g4 with ⟨a1, a2⟩ | ⟨b, a1, a2, a3, a4⟩
  · exact Or.inl ⟨(pk_un k2).trans a1, a2⟩
  · refine Or.inr ⟨b, a1, h3 b a1 a2 (fun e => ?_), (pk_un k2).trans a3, a4⟩
    subst e
    exact h2 x hx hl a3
section
variable {sg pl : Int32} {st sv pa pt rf sz bs ce py pr fA fB fr ou un pg ch : Nat → Int32} {ys yb : Nat → Int32}
theorem sd_mr26 {post : SX → Prop} {d l : Nat} (hd : d < 96) (hl : l ≤ 16) (hsz : sz d = nI l) : ∀ (n i : Nat) (py : Nat → Int32), i ≤ l → l - i < n → (∀ j, j < i → py (d * 16 + j) = ou j) →
    (∀ py' : Nat → Int32, sd_fr d py py' → (∀ j, j < l → py' (d * 16 + j) = ou j) → post (sg, pl, st, sv, pa, pt, rf, sz, bs, ce, py', pr, fA, fB, fr, ou, un, pg, ch)) → wX_makeRaw_26 post (nI d) sg pl n (nI i) st sv pa pt rf sz bs ce py pr fA fB fr ou un pg ch := by
  intro n
  induction n with
  | zero => intro i py h1 h2; omega
  | succ n ih =>
    intro i py h1 h2 ho K
    refine And.intro (vp_in_nI hd (by decide)) ?_
    refine pk_le l i (fun h => ?_) (fun h => ?_) (by rw [nI_clamp (by omega)]; exact hsz)
    · exact K py sd_fr_r (fun j hj => ho j (by omega))
    · refine ⟨vp_in_nI (by omega) (by decide), pk_in (d * 16 + i) 1536 (by omega) (sd_ix d i), ?_⟩
      refine nm_r (e' := upd py (d * 16 + i) (ou i)) (by rw [sd_ix, nI_clamp (by omega), nI_clamp (by omega)]) (nm_r (nI_1 _) ?_)
      refine ih (i + 1) _ (by omega) (by omega) (fun j hj => ?_) (fun py' hf hp => K py' (sd_fr_u (by omega) hf) hp)
      by_cases ej : j = i
      · subst ej; rw [pk_us]
      · rw [pk_un (by omega), ho j (by omega)]
theorem sd_mr {post : SX → Prop} {L : Nat → Prop} {S : Nat → Nat} {C : Nat → Nat → Int32} {d : Nat} (H : sd_St L S C sz bs ce py) (hd : d < 96) (hL : L d)
    (K : ∀ py' ou' un' ch' : Nat → Int32, sd_St L S C sz (upd bs d 0) (upd ce d (nI (S d))) py' → post (sg, pl, st, sv, pa, pt, rf, sz, upd bs d 0, upd ce d (nI (S d)), py', pr, fA, fB, fr, ou', un', pg, ch')) :
    wpX_makeRaw post (sg, pl, st, sv, pa, pt, rf, sz, bs, ce, py, pr, fA, fB, fr, ou, un, pg, ch) (nI d) := by
  have hk := (H d hd hL).1
  have hi : vp_in (nI d) 96 := vp_in_nI hd (by decide)
  have ec : (nI d).toNatClampNeg = d := nI_clamp (by omega)
  unfold wpX_makeRaw
  refine sd_wo H hd hL ?_
  intro ou' un' ch' ho
  refine And.intro hi ?_
  refine nm_r (e' := upd bs d 0) (by rw [ec]) ⟨hi, hi, nm_r (e' := upd ce d (nI (S d))) (by rw [ec, hk.2.1]) ?_⟩
  refine ⟨S d + 1, sd_mr26 hd hk.1 hk.2.1 (S d + 1) 0 py (by omega) (by omega) (fun j hj => by omega) ?_⟩
  intro py' hf hp
  exact K py' ou' un' ch' (sd_St_raw H hd hL hf (fun j hj => (hp j hj).trans (ho j hj)))
theorem sd_rl22 {post : SX → Prop} {L : Nat → Prop} {S : Nat → Nat} {C : Nat → Nat → Int32} {R : Nat → Nat} {id : Nat} (hid : id < 96) (h0 : R id = 0) (hR : ∀ x, x < 96 → rf x = nI (R x)) (hb : ∀ x, x < 96 → R x ≤ 96)
    (hL1 : ∀ x, x < 96 → 0 < R x → L x) (hL2 : ∀ x, x < 96 → L x → x ≠ id → 0 < R x)
    (K : ∀ bs' ce' py' ou' un' ch' : Nat → Int32, sd_St (fun x => 0 < R x) S C sz bs' ce' py' → post (sg, pl, st, sv, pa, pt, rf, sz, bs', ce', py', pr, fA, fB, fr, ou', un', pg, ch')) :
    ∀ (n d : Nat) (bs ce py ou un ch : Nat → Int32), d ≤ 96 → 96 - d < n → sd_St L S C sz bs ce py → (∀ x, x < d → 0 < R x → ¬ bs x = nI (id + 1)) → wX_release_22 post (nI id) n (nI d) sg pl st sv pa pt rf sz bs ce py pr fA fB fr ou un pg ch := by
  intro n
  induction n with
  | zero => intro d bs ce py ou un ch h1 h2; omega
  | succ n ih =>
    intro d bs ce py ou un ch h1 h2 H hn
    refine pk_le 96 d (fun h => ?_) (fun h => ?_)
    · refine ⟨vp_in_nI hid (by decide), nm_r (e' := upd bs id 0) (by rw [nI_clamp (by omega)]) ?_⟩
      refine K _ _ _ _ _ _ (sd_St_drop hid H (fun x hx hl => ⟨hL1 x hx hl, fun e => ?_⟩) (fun x hx hl => hn x (by omega) hl) hL2)
      subst e
      omega
    · have hd : vp_in (nI d) 96 := vp_in_nI h (by decide)
      have ec : (nI d).toNatClampNeg = d := nI_clamp (by omega)
      have hbd := hb d h
      refine ⟨hd, ?_⟩
      rw [ec]
      refine pk_le (R d) 0 (fun hz => nm_r (nI_1 _) ?_) (fun hz => ?_) (hR d h)
      · refine ih (d + 1) bs ce py ou un ch (by omega) (by omega) H (fun x hx hl => ?_)
        by_cases e : x = d
        · subst e; omega
        · exact hn x (by omega) hl
      · refine ⟨hd, ?_⟩
        rw [nI_1 id]
        refine br_c (fun e => ?_) (fun e => nm_r (nI_1 _) ?_)
        · refine sd_mr H h (hL1 d h hz) ?_
          intro py' ou' un' ch' H'
          refine nm_r (nI_1 _) ?_
          refine ih (d + 1) _ _ py' ou' un' ch' (by omega) (by omega) H' (fun x hx hl => ?_)
          by_cases ex : x = d
          · subst ex; rw [pk_us]; exact fun z => sd_nz (by omega) z.symm
          · rw [pk_un ex]; exact hn x (by omega) hl
        · refine ih (d + 1) bs ce py ou un ch (by omega) (by omega) H (fun x hx hl => ?_)
          by_cases ex : x = d
          · subst ex; exact e
          · exact hn x (by omega) hl
theorem sd_rel {post : SX → Prop} {S : Nat → Nat} {C : Nat → Nat → Int32} {R : Nat → Nat} {id r : Nat} (hid : id < 96) (hr : R id = r + 1) (hR : ∀ x, x < 96 → rf x = nI (R x)) (hb : ∀ x, x < 96 → R x ≤ 96)
    (H : sd_St (fun x => 0 < R x) S C sz bs ce py)
    (K : ∀ rf' bs' ce' py' ou' un' ch' : Nat → Int32, (∀ x, x < 96 → rf' x = nI (sd_set R id r x)) → sd_St (fun x => 0 < sd_set R id r x) S C sz bs' ce' py' → post (sg, pl, st, sv, pa, pt, rf', sz, bs', ce', py', pr, fA, fB, fr, ou', un', pg, ch')) :
    wpX_release post (sg, pl, st, sv, pa, pt, rf, sz, bs, ce, py, pr, fA, fB, fr, ou, un, pg, ch) (nI id) := by
  have hi : vp_in (nI id) 96 := vp_in_nI hid (by decide)
  have ec : (nI id).toNatClampNeg = id := nI_clamp (by omega)
  have hbi := hb id hid
  have e1 : upd rf (nI id).toNatClampNeg (rf (nI id).toNatClampNeg - 1) = upd rf id (nI r) := by rw [ec, hR id hid, hr, sd_sub1]
  have hR' : ∀ x, x < 96 → upd rf id (nI r) x = nI (sd_set R id r x) := by
    intro x hx
    by_cases e : x = id
    · subst e; rw [pk_us, sd_set_s]
    · rw [pk_un e, sd_set_n e, hR x hx]
  unfold wpX_release
  refine ⟨hi, hi, nm_r e1 ⟨hi, ?_⟩⟩
  refine pk_le r 0 (fun hz => ?_) (fun hz => ?_) (by rw [ec]; exact pk_us)
  · have ez : r = 0 := by omega
    subst ez
    refine ⟨97, sd_rl22 (L := fun x => 0 < R x) hid sd_set_s hR' (fun x hx => ?_) (fun x hx hl => ?_) (fun x hx hl hn => ?_) (fun bs' ce' py' ou' un' ch' H' => K _ _ _ _ _ _ _ hR' H') 97 0 bs ce py ou un ch (by omega) (by omega) H (fun x hx => absurd hx (Nat.not_lt_zero _))⟩
    · by_cases e : x = id
      · subst e; rw [sd_set_s]; omega
      · rw [sd_set_n e]; exact hb x hx
    · by_cases e : x = id
      · subst e; rw [sd_set_s] at hl; omega
      · rw [sd_set_n e] at hl; exact hl
    · rw [sd_set_n hn]; exact hl
  · refine K _ _ _ _ _ _ _ hR' (sd_St_iff H (fun x hx => ?_))
    by_cases e : x = id
    · subst e; rw [sd_set_s]; omega
    · rw [sd_set_n e]
theorem sd_dr14 {post : Int32 → SX → Prop} {S : Nat → Nat} {C : Nat → Nat → Int32} {P : Nat → Nat} {Q : Nat → Nat → Nat} {s : Nat} {x2 : Int32} (hs : s < 6) (hP : P s ≤ 16) (hP6 : ∀ t, t < 6 → P t ≤ 16) (hpa : pa s = nI (P s))
    (hpt : ∀ k, k < P s → pt (s * 16 + k) = nI (Q s k) ∧ Q s k < 96)
    (K : ∀ rf' bs' ce' py' ou' un' ch' : Nat → Int32, (∀ x, x < 96 → rf' x = nI (sd_cnt P Q x - sd_ct (Q s) x (P s))) → sd_St (fun x => 0 < sd_cnt P Q x - sd_ct (Q s) x (P s)) S C sz bs' ce' py' →
      post x2 (sg, pl, st, upd sv s (vp_nar .boolean 0), upd pa s 0, pt, rf', sz, bs', ce', py', pr, fA, fB, fr, ou', un', pg, ch')) :
    ∀ (n k : Nat) (rf bs ce py ou un ch : Nat → Int32), k ≤ P s → P s - k < n → (∀ x, x < 96 → rf x = nI (sd_cnt P Q x - sd_ct (Q s) x k)) → sd_St (fun x => 0 < sd_cnt P Q x - sd_ct (Q s) x k) S C sz bs ce py →
    wX_drop_14 post (nI s) x2 n (nI k) sg pl st sv pa pt rf sz bs ce py pr fA fB fr ou un pg ch := by
  have ec : (nI s).toNatClampNeg = s := nI_clamp (by omega)
  have hi : vp_in (nI s) 6 := vp_in_nI hs (by decide)
  have hle : ∀ x, sd_ct (Q s) x (P s) ≤ sd_cnt P Q x := fun x => sd_sm_le (f := fun t => sd_ct (Q t) x (P t)) 6 s hs
  intro n
  induction n with
  | zero => intro k rf bs ce py ou un ch h1 h2; omega
  | succ n ih =>
    intro k rf bs ce py ou un ch h1 h2 hR H
    refine And.intro hi ?_
    refine pk_le (P s) k (fun h => ?_) (fun h => ?_) (by rw [ec]; exact hpa)
    · have e : k = P s := by omega
      subst e
      exact ⟨hi, nm_r (e' := upd sv s (vp_nar .boolean 0)) (by rw [ec]) ⟨hi, nm_r (e' := upd pa s 0) (by rw [ec]) (K rf bs ce py ou un ch hR H)⟩⟩
    · obtain ⟨g1, g2⟩ := hpt k h
      refine ⟨pk_in (s * 16 + k) 96 (by omega) (sd_ix s k), ?_⟩
      rw [sd_ix, nI_clamp (n := s * 16 + k) (by omega), g1]
      have hp1 := sd_ct_pos (q := Q s) h
      have hp2 := hle (Q s k)
      have hset : ∀ x, sd_set (fun x => sd_cnt P Q x - sd_ct (Q s) x k) (Q s k) (sd_cnt P Q (Q s k) - sd_ct (Q s) (Q s k) k - 1) x = sd_cnt P Q x - sd_ct (Q s) x (k + 1) := by
        intro x
        by_cases e : x = Q s k
        · rw [e, sd_set_s, sd_ct_hit]; omega
        · rw [sd_set_n e]
          show _ = sd_cnt P Q x - (sd_ct (Q s) x k + (if Q s k = x then 1 else 0))
          rw [if_neg (fun z => e z.symm)]; rfl
      refine sd_rel (R := fun x => sd_cnt P Q x - sd_ct (Q s) x k) (r := sd_cnt P Q (Q s k) - sd_ct (Q s) (Q s k) k - 1) g2 (by omega) hR (fun x hx => ?_) H ?_
      · have := sd_cnt_le (Q := Q) (x := x) hP6
        omega
      · intro rf' bs' ce' py' ou' un' ch' hR' H'
        refine nm_r (nI_1 _) ?_
        refine ih (k + 1) rf' bs' ce' py' ou' un' ch' (by omega) (by omega) (fun x hx => ?_) (sd_St_iff H' (fun x hx => ?_))
        · rw [hR' x hx, hset x]
        · rw [hset x]
end
theorem i_vc_drop {k : Nat} {u : SX} {v : SY} (I : i_Rel k u v) (hk : k + 4 ≤ 2048) (v1 : Int32) : wpX_drop (fun r u' => wpY_drop (fun r' v' => r' = r ∧ i_Rel (k + 4) u' v') v v1) u v1 := by
  refine sd_el (G := fun u v => wpX_drop (fun r u' => wpY_drop (fun r' v' => r' = r ∧ i_Rel (k + 4) u' v') v v1) u v1) I ?_
  intro n pl st sv pa pt rf sz bs ce py pr fA fB fr ou un pg ch ys yb P Q Z S C R
  unfold wpX_drop wpY_drop
  by_cases hx : sd_sl v1
  · obtain ⟨s, hs, rfl⟩ := hx
    by_cases hv : sv s = 0
    · refine sd_len_no hs hv (br_f (by decide) ?_)
      exact sd_ym_no hs hv (br_f (by decide) ⟨rfl, sd_in (n := n) R⟩)
    · have hz := sd_RZ R hs
      obtain ⟨R1, R2, R3, R4, R5⟩ := R
      have ec : (nI s).toNatClampNeg = s := nI_clamp (by omega)
      have hs6 : vp_in (nI s) 6 := vp_in_nI hs (by decide)
      have hP6 : ∀ t, t < 6 → P t ≤ 16 := fun t ht => (R5 t ht).1.1
      have ey := (R5 s hs).2.2 hv
      obtain ⟨S1, S2, S3, S4, S5⟩ := (R5 s hs).1
      refine sd_Rlen ⟨R1, R2, R3, R4, R5⟩ hs hv (br_t (nI_pos' (by omega)) ⟨P s + 1, ?_⟩)
      refine sd_dr14 (S := S) (C := C) (P := P) (Q := Q) hs S1 hP6 S2 (fun k hk => ⟨(S5 k hk).1, (S5 k hk).2.1⟩) ?_ (P s + 1) 0 rf bs ce py ou un ch (by omega) (by omega) R3 R4
      intro rf' bs' ce' py' ou' un' ch' hR H
      refine sd_ym_ok hs hv (br_t rfl ⟨hs6, nm_r (e' := upd sv s (vp_nar .boolean 0)) (by rw [ec]) ⟨hs6, by rw [ec]; exact ey, ?_⟩⟩)
      have hc : ∀ x, sd_cnt (sd_set P s 0) Q x = sd_cnt P Q x - sd_ct (Q s) x (P s) := by
        intro x
        have h1 := sd_sm_one (f := fun t => sd_ct (Q t) x (sd_set P s 0 t)) (g := fun t => sd_ct (Q t) x (P t)) (t := s) 6 hs (fun t ht hn => by show sd_ct (Q t) x (sd_set P s 0 t) = _; rw [sd_set_n hn])
        have h2 : sd_ct (Q s) x (sd_set P s 0 s) = 0 := by rw [sd_set_s]; rfl
        have h3 : sd_cnt (sd_set P s 0) Q x + sd_ct (Q s) x (P s) = sd_cnt P Q x + sd_ct (Q s) x (sd_set P s 0 s) := h1
        omega
      refine sd_in (n := n) (P := sd_set P s 0) (Q := Q) (Z := sd_set Z s 0) (S := S) (C := C) ⟨R1, R2, fun x hx => ?_, sd_St_iff H (fun x hx => ?_), fun t ht => ?_⟩
      · rw [hR x hx, hc x]
      · rw [hc x]
      · by_cases e : t = s
        · subst e
          rw [sd_set_s, sd_set_s, pk_us]
          exact ⟨⟨Nat.zero_le _, pk_us, rfl, Nat.zero_le _, fun k hk => absurd hk (Nat.not_lt_zero _)⟩, fun _ => rfl, fun h => absurd rfl h⟩
        · rw [sd_set_n e, sd_set_n e, pk_un e]
          obtain ⟨⟨T1, T2, T3, T4, T5⟩, T6⟩ := R5 t ht
          exact ⟨⟨T1, (pk_un e).trans T2, T3, T4, T5⟩, T6⟩
  · refine sd_len_bad hx (br_f (by decide) ?_)
    exact sd_ym_bad hx (br_f (by decide) ⟨rfl, sd_in (n := n) R⟩)
end
section
section
variable {sg pl : Int32} {st sv pa pt rf sz bs ce py pr fA fB fr ou un pg ch : Nat → Int32} {ys yb : Nat → Int32}
theorem sd_bd {post : Int32 → Prop} {f i : Nat} (hf : f ≤ i) (hi : i < 96) (K0 : i + 1 - f < 16 → post 0) (K1 : 6 ≤ i + 1 - f → post 1) : wpX_boundary post (sg, pl, st, sv, pa, pt, rf, sz, bs, ce, py, pr, fA, fB, fr, ou, un, pg, ch) (nI f) (nI i) := by
  unfold wpX_boundary
  refine nm_r (e' := nI (i + 1 - f)) (by rw [nI_1, pk_sub (by omega)]) ?_
  refine pk_le 6 (i + 1 - f) (fun h6 => ?_) (fun h6 => K0 (by omega))
  refine pk_lt (i + 1 - f) 16 (fun h => ?_) (fun h => K1 h6)
  refine ⟨vp_in_nI hi (by decide), pk_in (i - 1) 96 (by omega) (pk_sub (b := 1) (by omega)), pk_in (i - 2) 96 (by omega) (pk_sub (b := 2) (by omega)), ?_⟩
  exact nm_e (br_c (fun _ => K1 h6) (fun _ => K0 h))
theorem sd_oif2 {post : Int32 → Prop} {l : Nat} (hl : l ≤ 16) (K0 : post 0) (K1 : (∀ j, j < l → ou j = fr j) → post 1) : ∀ n i : Nat, i ≤ l → l - i < n → (∀ j, j < i → ou j = fr j) →
    wX_outIsFresh_2 post (nI l) sg pl st sv pa pt rf sz bs ce py pr fA fB fr ou un pg ch n (nI i) := by
  intro n
  induction n with
  | zero => intro i h1 h2; omega
  | succ n ih =>
    intro i h1 h2 he
    refine pk_le l i (fun h => K1 (fun j hj => he j (by omega))) (fun h => ?_)
    have hi : vp_in (nI i) 16 := vp_in_nI (by omega) (by decide)
    refine ⟨hi, hi, ?_⟩
    rw [nI_clamp (n := i) (by omega)]
    refine br_c (fun e => nm_r (nI_1 _) ?_) (fun _ => K0)
    refine ih (i + 1) (by omega) (by omega) (fun j hj => ?_)
    by_cases ej : j = i
    · subst ej; exact e
    · exact he j (by omega)
theorem sd_oif {post : Int32 → Prop} {l : Nat} (hl : l ≤ 16) (K0 : post 0) (K1 : (∀ j, j < l → ou j = fr j) → post 1) : wpX_outIsFresh post (sg, pl, st, sv, pa, pt, rf, sz, bs, ce, py, pr, fA, fB, fr, ou, un, pg, ch) (nI l) :=
  Exists.intro (l + 1) (sd_oif2 hl K0 K1 (l + 1) 0 (by omega) (by omega) (fun j hj => absurd hj (Nat.not_lt_zero _)))
theorem sd_fe2 {post : Int32 → SX → Prop} {S : Nat → Nat} {C : Nat → Nat → Int32} {R : Nat → Nat} {l : Nat} {mk : Int32} (hl : l ≤ 16) (hR : ∀ x, x < 96 → rf x = nI (R x)) (hb : ∀ x, x < 96 → R x ≤ 96)
    (H : sd_St (fun x => 0 < R x) S C sz bs ce py)
    (K0 : ∀ ou' un' ch' : Nat → Int32, post (-1) (sg, pl, st, sv, pa, pt, rf, sz, bs, ce, py, pr, fA, fB, fr, ou', un', pg, ch'))
    (K1 : ∀ (id : Nat) (ou' un' ch' : Nat → Int32), id < 96 → 0 < R id → S id = l → (∀ j, j < l → C id j = fr j) → post (nI id) (sg, pl, st, sv, pa, pt, rf, sz, bs, ce, py, pr, fA, fB, fr, ou', un', pg, ch')) :
    ∀ (n id : Nat) (ou un ch : Nat → Int32), id ≤ 96 → 96 - id < n → wX_findEqual_2 post mk (nI l) n (nI id) sg pl st sv pa pt rf sz bs ce py pr fA fB fr ou un pg ch := by
  intro n
  induction n with
  | zero => intro id ou un ch h1 h2; omega
  | succ n ih =>
    intro id ou un ch h1 h2
    refine pk_le 96 id (fun h => K0 ou un ch) (fun h => ?_)
    have hi : vp_in (nI id) 96 := vp_in_nI h (by decide)
    have hbi := hb id h
    have nx : ∀ ou un ch : Nat → Int32, ∀ x : Int32, x = nI id + 1 → wX_findEqual_2 post mk (nI l) n x sg pl st sv pa pt rf sz bs ce py pr fA fB fr ou un pg ch := fun ou un ch => nm_r (nI_1 _) (ih (id + 1) ou un ch (by omega) (by omega))
    refine ⟨hi, ?_⟩
    rw [nI_clamp (n := id) (by omega)]
    refine pk_le (R id) 0 (fun hz => nx ou un ch) (fun hz => ⟨hi, ?_⟩) (hR id h)
    refine br_c (fun hp => ⟨hi, ?_⟩) (fun hp => nx ou un ch)
    have hk := (H id h hz).1
    have hk1 := hk.1
    refine pk_eq (S id) l (fun he => ?_) (fun he => nx ou un ch) hk.2.1
    refine sd_wo H h hz ?_
    intro ou' un' ch' ho
    refine sd_oif hl (br_t rfl (nx ou' un' ch')) (fun hf => br_f (by decide) ?_)
    exact K1 id ou' un' ch' h hz he (fun j hj => (ho j (by omega)).symm.trans (hf j hj))
theorem sd_fe {post : Int32 → SX → Prop} {S : Nat → Nat} {C : Nat → Nat → Int32} {R : Nat → Nat} {l : Nat} {mk : Int32} (hl : l ≤ 16) (hR : ∀ x, x < 96 → rf x = nI (R x)) (hb : ∀ x, x < 96 → R x ≤ 96)
    (H : sd_St (fun x => 0 < R x) S C sz bs ce py)
    (K0 : ∀ ou' un' ch' : Nat → Int32, post (-1) (sg, pl, st, sv, pa, pt, rf, sz, bs, ce, py, pr, fA, fB, fr, ou', un', pg, ch'))
    (K1 : ∀ (id : Nat) (ou' un' ch' : Nat → Int32), id < 96 → 0 < R id → S id = l → (∀ j, j < l → C id j = fr j) → post (nI id) (sg, pl, st, sv, pa, pt, rf, sz, bs, ce, py, pr, fA, fB, fr, ou', un', pg, ch')) :
    wpX_findEqual post (sg, pl, st, sv, pa, pt, rf, sz, bs, ce, py, pr, fA, fB, fr, ou, un, pg, ch) mk (nI l) :=
  Exists.intro 97 (sd_fe2 hl hR hb H K0 K1 97 0 ou un ch (by omega) (by omega))
theorem sd_lw34 {post : Int32 → Prop} {J : Int32 → Int32 → Prop} {x1 x2 x3 x5 : Int32} {i w : Nat} (hw : i + w ≤ 16) (K : ∀ y, J y (nI (i + 1))) :
    ∀ (n k : Nat) (x7 : Int32), k ≤ w → w - k < n → wX_leastWindow_34 post J x1 x2 x3 (nI w) x5 (nI i) sg pl st sv pa pt rf sz bs ce py pr fA fB fr ou un pg ch n x7 (nI k) := by
  intro n
  induction n with
  | zero => intro k x7 h1 h2; omega
  | succ n ih =>
    intro k x7 h1 h2
    refine pk_le w k (fun h => ?_) (fun h => ?_)
    · exact nm_e (nm_e (br_c (fun _ => nm_r (nI_1 _) (K _)) (fun _ => nm_r (nI_1 _) (K _))))
    · exact ⟨pk_in (i + k) 16 (by omega) (nI_add i k), nm_e (nm_r (nI_1 _) (ih (k + 1) _ (by omega) (by omega)))⟩
theorem sd_lw19 {post : Int32 → Prop} {x2 x3 : Int32} {l w : Nat} (hl : l ≤ 16) (hw : w ≤ 16) (K : ∀ y, post y) :
    ∀ (n i : Nat) (x5 : Int32), i ≤ l + 1 → l + 1 - i < n → wX_leastWindow_19 post (nI l) x2 x3 (nI w) sg pl st sv pa pt rf sz bs ce py pr fA fB fr ou un pg ch n x5 (nI i) := by
  intro n
  induction n with
  | zero => intro i x5 h1 h2; omega
  | succ n ih =>
    intro i x5 h1 h2
    refine pk_lt l (i + w) (fun h => K _) (fun h => ?_) rfl (nI_add i w)
    exact ⟨w + 1, sd_lw34 (by omega) (fun y => ih (i + 1) y (by omega) (by omega)) (w + 1) 0 _ (by omega) (by omega)⟩
theorem sd_lw {post : Int32 → Prop} {x2 x3 : Int32} {l : Nat} (hl : l ≤ 16) (K : ∀ y, post y) : wpX_leastWindow post (sg, pl, st, sv, pa, pt, rf, sz, bs, ce, py, pr, fA, fB, fr, ou, un, pg, ch) (nI l) x2 x3 := by
  unfold wpX_leastWindow
  refine pk_le 4 l (fun h => ?_) (fun h => ?_)
  · exact ⟨l + 2, sd_lw19 (w := 4) hl (by omega) K (l + 2) 0 _ (by omega) (by omega)⟩
  · exact ⟨l + 2, sd_lw19 (w := l) hl hl K (l + 2) 0 _ (by omega) (by omega)⟩
theorem sd_bb4 {post : Int32 → Prop} {L : Nat → Prop} {id : Nat} (hc : ∀ x, x < 96 → L x → ∀ b, b < 96 → bs x = nI (b + 1) → L b) (K : ∀ m, m ≤ 2 → sd_Dp bs m id → post (nI m)) :
    ∀ k n m x : Nat, sd_Dp bs k x → m + k ≤ 2 → k < n → x < 96 → L x → (∀ j, sd_Dp bs j x → sd_Dp bs (m + j) id) → wX_basesBelow_4 post sg pl st sv pa pt rf sz bs ce py pr fA fB fr ou un pg ch n (nI m) (nI x) := by
  intro k
  induction k with
  | zero =>
    intro n m x hD hm hn hx hl hi
    obtain ⟨n, rfl⟩ : ∃ n', n = n' + 1 := ⟨n - 1, by omega⟩
    have z : bs x = 0 := hD
    refine br_f (nI_ge (b := 7) (by omega) (by decide)) ⟨vp_in_nI hx (by decide), ?_⟩
    rw [nI_clamp (n := x) (by omega), z]
    exact br_t (by decide) (K m (by omega) (hi 0 z))
  | succ k ih =>
    intro n m x hD hm hn hx hl hi
    obtain ⟨n, rfl⟩ : ∃ n', n = n' + 1 := ⟨n - 1, by omega⟩
    refine br_f (nI_ge (b := 7) (by omega) (by decide)) ⟨vp_in_nI hx (by decide), ?_⟩
    rw [nI_clamp (n := x) (by omega)]
    rcases hD with z | ⟨b, hb, e, hD⟩
    · rw [z]
      exact br_t (by decide) (K m (by omega) (hi 0 z))
    · rw [e, sd_sub1]
      refine br_f (nI_nle (by omega) (by omega)) ⟨vp_in_nI hx (by decide), nm_e (nm_r (nI_1 _) ?_)⟩
      refine ih n (m + 1) b hD (by omega) (by omega) hb (hc x hx hl b hb e) (fun j hj => ?_)
      have e2 : m + 1 + j = m + (j + 1) := by omega
      rw [e2]
      exact hi (j + 1) (Or.inr ⟨b, hb, e, hj⟩)
theorem sd_bb {post : Int32 → Prop} {L : Nat → Prop} {S : Nat → Nat} {C : Nat → Nat → Int32} {id : Nat} (H : sd_St L S C sz bs ce py) (hid : id < 96) (hL : L id) (K : ∀ m, m ≤ 2 → sd_Dp bs m id → post (nI m)) :
    wpX_basesBelow post (sg, pl, st, sv, pa, pt, rf, sz, bs, ce, py, pr, fA, fB, fr, ou, un, pg, ch) (nI id) :=
  Exists.intro 3 (sd_bb4 (sd_St_cl H) K 2 3 0 id (H id hid hL).2 (by omega) (by omega) hid hL (fun j hj => by rw [Nat.zero_add]; exact hj))
theorem sd_fs11 {post : Int32 → Prop} {x1 x2 : Int32} {S : Nat → Nat} {C : Nat → Nat → Int32} {R : Nat → Nat} (hR : ∀ x, x < 96 → rf x = nI (R x)) (hb : ∀ x, x < 96 → R x ≤ 96)
    (H : sd_St (fun x => 0 < R x) S C sz bs ce py) (K0 : post (-1)) (K1 : ∀ id, id < 96 → 0 < R id → sd_Dp bs 1 id → post (nI id)) :
    ∀ n id : Nat, id ≤ 96 → 96 - id < n → wX_findSimilar_11 post x1 x2 sg pl st sv pa pt rf sz bs ce py pr fA fB fr ou un pg ch n (nI id) := by
  intro n
  induction n with
  | zero => intro id h1 h2; omega
  | succ n ih =>
    intro id h1 h2
    refine pk_le 96 id (fun h => K0) (fun h => ?_)
    have hi : vp_in (nI id) 96 := vp_in_nI h (by decide)
    have hbi := hb id h
    have nx : ∀ x : Int32, x = nI id + 1 → wX_findSimilar_11 post x1 x2 sg pl st sv pa pt rf sz bs ce py pr fA fB fr ou un pg ch n x := nm_r (nI_1 _) (ih (id + 1) (by omega) (by omega))
    have go : 0 < R id → wX_findSimilar_50 post (wX_findSimilar_11 post x1 x2 sg pl st sv pa pt rf sz bs ce py pr fA fB fr ou un pg ch n) x1 x2 (nI id) sg pl st sv pa pt rf sz bs ce py pr fA fB fr ou un pg ch := by
      intro hz
      unfold wX_findSimilar_50
      refine sd_bb H h hz (fun m hm hD => ?_)
      refine pk_le 2 m (fun _ => nx) (fun h2 => K1 id h hz ?_)
      by_cases e : m = 1
      · subst e; exact hD
      · have e0 : m = 0 := by omega
        subst e0
        exact sd_Dp_mono 0 id hD
    refine ⟨hi, ?_⟩
    rw [nI_clamp (n := id) (by omega)]
    refine pk_le (R id) 0 (fun hz => nx) (fun hz => ⟨hi, ?_⟩) (hR id h)
    exact br_c (fun _ => go hz) (fun _ => ⟨hi, br_c (fun _ => go hz) (fun _ => nx)⟩)
theorem sd_fs {post : Int32 → Prop} {x1 x2 : Int32} {S : Nat → Nat} {C : Nat → Nat → Int32} {R : Nat → Nat} {l : Nat} (hl : l ≤ 16) (hR : ∀ x, x < 96 → rf x = nI (R x)) (hb : ∀ x, x < 96 → R x ≤ 96)
    (H : sd_St (fun x => 0 < R x) S C sz bs ce py) (K0 : post (-1)) (K1 : ∀ id, id < 96 → 0 < R id → sd_Dp bs 1 id → post (nI id)) : wpX_findSimilar post (sg, pl, st, sv, pa, pt, rf, sz, bs, ce, py, pr, fA, fB, fr, ou, un, pg, ch) x1 x2 (nI l) := by
  unfold wpX_findSimilar
  refine pk_le 6 l (fun h => ?_) (fun h => K0)
  exact ⟨97, sd_fs11 hR hb H K0 K1 97 0 (by omega) (by omega)⟩
end
end
section
theorem sd_Stp_cong {q q' D : Nat → Int32} {d : Nat} {E : Nat → Int32} {e : Nat} {P P' : Nat → Nat} {p : Nat} (h1 : q' p = q p) (h2 : P' p = P p) (h3 : P' (p + 1) = P (p + 1)) (H : sd_Stp q D d E e P p) : sd_Stp q' D d E e P' p := by
  unfold sd_Stp at H ⊢
  rw [h1, h2, h3]
  exact H
/-- a new chunk id is kept -/
theorem sd_St_new {L : Nat → Prop} {S : Nat → Nat} {C : Nat → Nat → Int32} {sz bs ce py bs' ce' py' fr : Nat → Int32} {id l : Nat} (H : sd_St L S C sz bs ce py) (hid : id < 96) (hn : ¬ L id) (hl : l ≤ 16)
    (hB : ∀ j, j < l → sd_B (fr j)) (hsz : sz id = nI l) (hbs : ∀ x, x ≠ id → bs' x = bs x) (hce : ∀ x, x ≠ id → ce' x = ce x) (hf : sd_fr id py py')
    (hw : (bs' id = 0 ∧ ∀ i, i < l → py' (id * 16 + i) = fr i) ∨ (∃ b : Nat, b < 96 ∧ L b ∧ bs' id = nI (b + 1) ∧ sd_Dp bs 1 b ∧ ∃ (c : Nat) (P : Nat → Nat), c ≤ 16 ∧ ce' id = nI c ∧
      sd_Prg (fun p => py' (id * 16 + p)) (C b) (S b) fr l c P)) :
    sd_St (fun x => L x ∨ x = id) (sd_set S id l) (sd_set C id fr) sz bs' ce' py' := by
  have hne : ∀ b, L b → b ≠ id := fun b hb e => hn (by rw [← e]; exact hb)
  have hD := sd_Dp_live (sd_St_cl H) (fun x _ hl => hbs x (hne x hl))
  intro x hx hL
  by_cases e : x = id
  · subst e
    constructor
    · refine ⟨by rw [sd_set_s]; exact hl, by rw [sd_set_s]; exact hsz, by rw [sd_set_s, sd_set_s]; exact hB, ?_⟩
      rw [sd_set_s, sd_set_s]
      rcases hw with hw | ⟨b, b1, b2, b3, b4, c, P, b5, b6, b7⟩
      · exact Or.inl hw
      · refine Or.inr ⟨b, b1, Or.inl b2, b3, c, P, b5, b6, ?_⟩
        rw [sd_set_n (hne b b2), sd_set_n (hne b b2)]
        exact b7
    · rcases hw with hw | ⟨b, b1, b2, b3, b4, _⟩
      · exact Or.inl hw.1
      · exact Or.inr ⟨b, b1, b3, hD 1 b b1 b2 b4⟩
  · have hl' : L x := hL.resolve_right e
    obtain ⟨⟨h1, h2, h3, h4⟩, h5⟩ := H x hx hl'
    refine ⟨⟨by rw [sd_set_n e]; exact h1, by rw [sd_set_n e]; exact h2, by rw [sd_set_n e, sd_set_n e]; exact h3, ?_⟩, hD 2 x hx hl' h5⟩
    rw [sd_set_n e, sd_set_n e]
    rcases h4 with ⟨g1, g2⟩ | ⟨b, g1, g2, g3, c, P, g4, g5, g6⟩
    · exact Or.inl ⟨(hbs x e).trans g1, fun i hi => (hf x i e (by omega)).trans (g2 i hi)⟩
    · refine Or.inr ⟨b, g1, Or.inl g2, (hbs x e).trans g3, c, P, g4, (hce x e).trans g5, ?_⟩
      rw [sd_set_n (hne b g2), sd_set_n (hne b g2)]
      exact sd_Prg_cong (fun p hp => hf x p e (by omega)) g6
section
variable {sg pl : Int32} {st sv pa pt rf sz bs ce py pr fA fB fr ou un pg ch : Nat → Int32} {ys yb : Nat → Int32}
theorem sd_ml3 {post : Int32 → Prop} {i l s d : Nat} (hl : l ≤ 16) (hd : d ≤ 16) (K : ∀ m, i + m ≤ l → s + m ≤ d → (∀ j, j < m → fr (i + j) = ou (s + j)) → post (nI m)) :
    ∀ n m : Nat, i + m ≤ l → s + m ≤ d → l - (i + m) < n → (∀ j, j < m → fr (i + j) = ou (s + j)) → wX_matchLength_3 post (nI i) (nI l) (nI s) (nI d) sg pl st sv pa pt rf sz bs ce py pr fA fB fr ou un pg ch n (nI m) := by
  intro n
  induction n with
  | zero => intro m h1 h2 h3; omega
  | succ n ih =>
    intro m h1 h2 h3 he
    refine pk_le l (i + m) (fun h => K m h1 h2 he) (fun h => ?_) rfl (nI_add i m)
    refine pk_le d (s + m) (fun h' => K m h1 h2 he) (fun h' => ?_) rfl (nI_add s m)
    refine ⟨pk_in (i + m) 16 (by omega) (nI_add i m), pk_in (s + m) 16 (by omega) (nI_add s m), ?_⟩
    rw [nI_add, nI_add, nI_clamp (n := i + m) (by omega), nI_clamp (n := s + m) (by omega)]
    refine br_c (fun e => nm_r (nI_1 _) ?_) (fun _ => K m h1 h2 he)
    refine ih (m + 1) (by omega) (by omega) (by omega) (fun j hj => ?_)
    by_cases ej : j = m
    · subst ej; exact e
    · exact he j (by omega)
theorem sd_ml {post : Int32 → Prop} {i l s d : Nat} (hl : l ≤ 16) (hd : d ≤ 16) (hi : i ≤ l) (hs : s ≤ d) (K : ∀ m, i + m ≤ l → s + m ≤ d → (∀ j, j < m → fr (i + j) = ou (s + j)) → post (nI m)) :
    wpX_matchLength post (sg, pl, st, sv, pa, pt, rf, sz, bs, ce, py, pr, fA, fB, fr, ou, un, pg, ch) (nI i) (nI l) (nI s) (nI d) :=
  Exists.intro (l + 1) (sd_ml3 hl hd K (l + 1) 0 (by omega) (by omega) (by omega) (fun j hj => absurd hj (Nat.not_lt_zero _)))
theorem sd_mp30 {post : SX → Prop} {J : Int32 → Int32 → (Nat → Int32) → (Nat → Int32) → (Nat → Int32) → (Nat → Int32) → (Nat → Int32) → (Nat → Int32) → (Nat → Int32) → (Nat → Int32) → (Nat → Int32) → (Nat → Int32) → (Nat → Int32) → (Nat → Int32) → (Nat → Int32) → (Nat → Int32) → (Nat → Int32) → (Nat → Int32) → (Nat → Int32) → Prop}
    {i l d c : Nat} (hil : i < l) (hl : l ≤ 16) (hd : d ≤ 16) (hc : c < 16) (K1 : J (nI (i + 1)) (nI (c + 1)) st sv pa pt rf sz bs ce py pr fA fB fr ou un (upd pg c (fr i)) ch)
    (K2 : ∀ a b : Nat, 2 ≤ b → a + b ≤ d → i + b ≤ l → (∀ j, j < b → fr (i + j) = ou (a + j)) → J (nI (i + b)) (nI (c + 1)) st sv pa pt rf sz bs ce py pr fA fB fr ou un (upd pg c (nI (256 + (a * 16 + (b - 1))))) ch) :
    ∀ n s a b : Nat, s ≤ d → d - s < n → a + b ≤ d → i + b ≤ l → (∀ j, j < b → fr (i + j) = ou (a + j)) → wX_makeProgram_30 post J (nI l) (nI d) (nI i) sg (nI c) st sv pa pt rf sz bs ce py pr fA fB fr ou un pg ch n (nI a) (nI b) (nI s) := by
  intro n
  induction n with
  | zero => intro s a b h1 h2; omega
  | succ n ih =>
    intro s a b h1 h2 h3 h4 h5
    have ec : (nI c).toNatClampNeg = c := nI_clamp (by omega)
    refine pk_le d s (fun h => ?_) (fun h => ?_)
    · refine pk_lt b 2 (fun h' => ?_) (fun h' => ?_)
      · exact ⟨vp_in_nI (by omega) (by decide), vp_in_nI hc (by decide), nm_r (e' := upd pg c (fr i)) (by rw [ec, nI_clamp (by omega)]) (nm_r (nI_1 _) (nm_r (nI_1 _) K1))⟩
      · exact ⟨vp_in_nI hc (by decide), nm_r (e' := upd pg c (nI (256 + (a * 16 + (b - 1))))) (by rw [ec, sd_mk (by omega)]) (nm_r (nI_add _ _) (nm_r (nI_1 _) (K2 a b h' h3 h4 h5)))⟩
    · refine sd_ml hl hd (by omega) h1 (fun m m1 m2 m3 => ?_)
      refine pk_le m b (fun h' => nm_r (nI_1 _) ?_) (fun h' => nm_r (nI_1 _) ?_)
      · exact ih (s + 1) a b (by omega) (by omega) h3 h4 h5
      · exact ih (s + 1) s m (by omega) (by omega) m2 m1 m3
theorem sd_mp7 {post : SX → Prop} {l d : Nat} (hl : l ≤ 16) (hd : d ≤ 16) (hB : ∀ j, j < l → sd_B (fr j))
    (K : ∀ (pg' : Nat → Int32) (c : Nat) (P : Nat → Nat), c ≤ 16 → sd_Prg pg' ou d fr l c P → post (sg, nI c, st, sv, pa, pt, rf, sz, bs, ce, py, pr, fA, fB, fr, ou, un, pg', ch)) :
    ∀ (n i c : Nat) (pg : Nat → Int32) (P : Nat → Nat), i ≤ l → l - i < n → c ≤ i → P 0 = 0 → P c = i → (∀ p, p < c → sd_Stp pg ou d fr l P p) → wX_makeProgram_7 post (nI l) (nI d) sg n (nI i) (nI c) st sv pa pt rf sz bs ce py pr fA fB fr ou un pg ch := by
  intro n
  induction n with
  | zero => intro i c pg P h1 h2; omega
  | succ n ih =>
    intro i c pg P h1 h2 h3 hP0 hPc hS
    refine pk_le l i (fun h => ?_) (fun h => ?_)
    · have e : i = l := by omega
      subst e
      exact K pg c P (by omega) ⟨hP0, hPc, hS⟩
    · refine br_f (nI_ge (b := 16) (by omega) (by decide)) ⟨d + 1, ?_⟩
      refine sd_mp30 h hl hd (by omega) ?_ ?_ (d + 1) 0 0 0 (by omega) (by omega) (by omega) (by omega) (fun j hj => absurd hj (Nat.not_lt_zero _))
      · refine ih (i + 1) (c + 1) _ (sd_set P (c + 1) (i + 1)) (by omega) (by omega) (by omega) (by rw [sd_set_n (by omega)]; exact hP0) sd_set_s (fun p hp => ?_)
        by_cases ep : p = c
        · subst ep
          obtain ⟨b, b1, b2⟩ := hB i h
          unfold sd_Stp
          rw [sd_set_s, sd_set_n (by omega), pk_us, hPc]
          exact ⟨by omega, Or.inl ⟨b, b1, b2, b2, rfl⟩⟩
        · exact sd_Stp_cong (pk_un ep) (sd_set_n (by omega)) (sd_set_n (by omega)) (hS p (by omega))
      · intro a b k1 k2 k3 k4
        refine ih (i + b) (c + 1) _ (sd_set P (c + 1) (i + b)) (by omega) (by omega) (by omega) (by rw [sd_set_n (by omega)]; exact hP0) sd_set_s (fun p hp => ?_)
        by_cases ep : p = c
        · subst ep
          unfold sd_Stp
          rw [sd_set_s, sd_set_n (by omega), pk_us, hPc]
          exact ⟨k3, Or.inr ⟨a, b, by omega, by omega, k2, rfl, rfl, k4⟩⟩
        · exact sd_Stp_cong (pk_un ep) (sd_set_n (by omega)) (sd_set_n (by omega)) (hS p (by omega))
theorem sd_mp {post : SX → Prop} {l d : Nat} (hl : l ≤ 16) (hd : d ≤ 16) (hB : ∀ j, j < l → sd_B (fr j))
    (K : ∀ (pg' : Nat → Int32) (c : Nat) (P : Nat → Nat), c ≤ 16 → sd_Prg pg' ou d fr l c P → post (sg, nI c, st, sv, pa, pt, rf, sz, bs, ce, py, pr, fA, fB, fr, ou, un, pg', ch)) : wpX_makeProgram post (sg, pl, st, sv, pa, pt, rf, sz, bs, ce, py, pr, fA, fB, fr, ou, un, pg, ch) (nI l) (nI d) := by
  unfold wpX_makeProgram
  exact ⟨l + 1, sd_mp7 hl hd hB K (l + 1) 0 0 pg (fun _ => 0) (by omega) (by omega) (by omega) rfl rfl (fun p hp => absurd hp (Nat.not_lt_zero _))⟩
theorem sd_sa104 {post : SX → Prop} {d l : Nat} (hd : d < 96) (hl : l ≤ 16) : ∀ (n i : Nat) (py : Nat → Int32), i ≤ l → l - i < n → (∀ j, j < i → py (d * 16 + j) = fr j) →
    (∀ py' : Nat → Int32, sd_fr d py py' → (∀ j, j < l → py' (d * 16 + j) = fr j) → post (sg, pl, st, sv, pa, pt, rf, sz, bs, ce, py', pr, fA, fB, fr, ou, un, pg, ch)) → wX_storeAgainst_104 post (nI d) (nI l) sg pl n (nI i) st sv pa pt rf sz bs ce py pr fA fB fr ou un pg ch := by
  intro n
  induction n with
  | zero => intro i py h1 h2; omega
  | succ n ih =>
    intro i py h1 h2 ho K
    refine pk_le l i (fun h => ?_) (fun h => ?_)
    · exact K py sd_fr_r (fun j hj => ho j (by omega))
    · refine ⟨vp_in_nI (by omega) (by decide), pk_in (d * 16 + i) 1536 (by omega) (sd_ix d i), ?_⟩
      refine nm_r (e' := upd py (d * 16 + i) (fr i)) (by rw [sd_ix, nI_clamp (by omega), nI_clamp (by omega)]) (nm_r (nI_1 _) ?_)
      refine ih (i + 1) _ (by omega) (by omega) (fun j hj => ?_) (fun py' hf hp => K py' (sd_fr_u (by omega) hf) hp)
      by_cases ej : j = i
      · subst ej; rw [pk_us]
      · rw [pk_un (by omega), ho j (by omega)]
theorem sd_sa59 {post : SX → Prop} {d l : Nat} (hd : d < 96) (hl : l ≤ 16) : ∀ (n i : Nat) (py : Nat → Int32), i ≤ l → l - i < n → (∀ j, j < i → py (d * 16 + j) = pg j) →
    (∀ py' : Nat → Int32, sd_fr d py py' → (∀ j, j < l → py' (d * 16 + j) = pg j) → post (sg, nI l, st, sv, pa, pt, rf, sz, bs, ce, py', pr, fA, fB, fr, ou, un, pg, ch)) → wX_storeAgainst_59 post (nI d) sg (nI l) n (nI i) st sv pa pt rf sz bs ce py pr fA fB fr ou un pg ch := by
  intro n
  induction n with
  | zero => intro i py h1 h2; omega
  | succ n ih =>
    intro i py h1 h2 ho K
    refine pk_le l i (fun h => ?_) (fun h => ?_)
    · exact K py sd_fr_r (fun j hj => ho j (by omega))
    · refine ⟨vp_in_nI (by omega) (by decide), pk_in (d * 16 + i) 1536 (by omega) (sd_ix d i), ?_⟩
      refine nm_r (e' := upd py (d * 16 + i) (pg i)) (by rw [sd_ix, nI_clamp (by omega), nI_clamp (by omega)]) (nm_r (nI_1 _) ?_)
      refine ih (i + 1) _ (by omega) (by omega) (fun j hj => ?_) (fun py' hf hp => K py' (sd_fr_u (by omega) hf) hp)
      by_cases ej : j = i
      · subst ej; rw [pk_us]
      · rw [pk_un (by omega), ho j (by omega)]
/-- storeAgainst -/
theorem sd_sa {post : SX → Prop} {L : Nat → Prop} {S : Nat → Nat} {C : Nat → Nat → Int32} {id l : Nat} {x : Int32} (H : sd_St L S C sz bs ce py) (hid : id < 96) (hn : ¬ L id) (hl : l ≤ 16)
    (hB : ∀ j, j < l → sd_B (fr j)) (hsz : sz id = nI l) (hx : x = -1 ∨ ∃ y : Nat, y < 96 ∧ L y ∧ sd_Dp bs 1 y ∧ x = nI y)
    (K : ∀ (pl' : Int32) (bs' ce' py' ou' un' pg' ch' : Nat → Int32), sd_St (fun x => L x ∨ x = id) (sd_set S id l) (sd_set C id fr) sz bs' ce' py' →
      post (sg, pl', st, sv, pa, pt, rf, sz, bs', ce', py', pr, fA, fB, fr, ou', un', pg', ch')) : wpX_storeAgainst post (sg, pl, st, sv, pa, pt, rf, sz, bs, ce, py, pr, fA, fB, fr, ou, un, pg, ch) (nI id) x (nI l) := by
  have hi : vp_in (nI id) 96 := vp_in_nI hid (by decide)
  have ec : (nI id).toNatClampNeg = id := nI_clamp (by omega)
  unfold wpX_storeAgainst
  refine ⟨hi, nm_r (e' := upd bs id 0) (by rw [ec]) ?_⟩
  rcases hx with rfl | ⟨y, hy, hLy, hDy, rfl⟩
  · refine br_t (by decide) ⟨hi, nm_r (e' := upd ce id (nI l)) (by rw [ec]) ⟨l + 1, ?_⟩⟩
    refine sd_sa104 hid hl (l + 1) 0 py (by omega) (by omega) (fun j hj => absurd hj (Nat.not_lt_zero _)) ?_
    intro py' hf hp
    exact K _ _ _ _ _ _ _ _ (sd_St_new H hid hn hl hB hsz (fun x hx => pk_un hx) (fun x hx => pk_un hx) hf (Or.inl ⟨pk_us, hp⟩))
  · have hne : y ≠ id := fun e => hn (by rw [← e]; exact hLy)
    have H0 : sd_St L S C sz (upd bs id 0) ce py := by
      intro z hz hLz
      have hzn : z ≠ id := fun e => hn (by rw [← e]; exact hLz)
      obtain ⟨⟨h1, h2, h3, h4⟩, h5⟩ := H z hz hLz
      refine ⟨⟨h1, h2, h3, ?_⟩, sd_Dp_zero 2 z h5⟩
      rw [pk_un hzn]
      exact h4
    have hk := (H y hy hLy).1
    refine br_f (nI_pos (by omega)) ?_
    refine sd_wo H0 hy hLy ?_
    intro ou' un' ch' ho
    refine And.intro (vp_in_nI hy (by decide)) ?_
    rw [nI_clamp (n := y) (by omega), hk.2.1]
    refine sd_mp hl hk.1 hB ?_
    intro pg' c P hc hP
    refine And.intro (by decide) ?_
    have e2 : nI l / 2 = nI (l / 2) := pk_div (d := 2) (by omega) (by decide) (by decide)
    refine pk_lt (l / 2) c (fun h => ?_) (fun h => ?_) e2
    · refine ⟨hi, nm_r (e' := upd ce id (nI l)) (by rw [ec]) ⟨l + 1, ?_⟩⟩
      refine sd_sa104 hid hl (l + 1) 0 py (by omega) (by omega) (fun j hj => absurd hj (Nat.not_lt_zero _)) ?_
      intro py' hf hp
      exact K _ _ _ _ _ _ _ _ (sd_St_new H hid hn hl hB hsz (fun x hx => pk_un hx) (fun x hx => pk_un hx) hf (Or.inl ⟨pk_us, hp⟩))
    · refine ⟨hi, nm_r (e' := upd (upd bs id 0) id (nI (y + 1))) (by rw [ec, nI_1]) ⟨hi, nm_r (e' := upd ce id (nI c)) (by rw [ec]) ⟨c + 1, ?_⟩⟩⟩
      refine sd_sa59 hid hc (c + 1) 0 py (by omega) (by omega) (fun j hj => absurd hj (Nat.not_lt_zero _)) ?_
      intro py' hf hp
      refine K _ _ _ _ _ _ _ _ (sd_St_new H hid hn hl hB hsz (fun x hx => by rw [pk_un hx, pk_un hx]) (fun x hx => pk_un hx) hf (Or.inr ⟨y, hy, hLy, pk_us, hDy, c, P, hc, pk_us, ?_⟩))
      refine sd_Prg_cong (q := pg') hp ?_
      obtain ⟨p1, p2, p3⟩ := hP
      refine ⟨p1, p2, fun p hp' => ?_⟩
      obtain ⟨q1, q2 | ⟨f, w, w1, w2, w3, w4, w5, w6⟩⟩ := p3 p hp'
      · exact ⟨q1, Or.inl q2⟩
      · exact ⟨q1, Or.inr ⟨f, w, w1, w2, w3, w4, w5, fun i hi => (w6 i hi).trans (ho (f + i) (by omega))⟩⟩
end
end
section
section
variable {sg pl : Int32} {st sv pa pt rf sz bs ce py pr fA fB fr ou un pg ch : Nat → Int32} {ys yb : Nat → Int32}
/-- what keepChunk gives: chunk id holds the bytes F (l of them), one use more; what lived is as it was -/
def sd_KC (R S : Nat → Nat) (C : Nat → Nat → Int32) (l : Nat) (F : Nat → Int32) (id : Nat) (rf sz bs ce py : Nat → Int32) (S' : Nat → Nat) (C' : Nat → Nat → Int32) : Prop :=
  id < 96 ∧ (∀ x, x < 96 → rf x = nI (sd_set R id (R id + 1) x)) ∧ sd_St (fun x => 0 < sd_set R id (R id + 1) x) S' C' sz bs ce py ∧ S' id = l ∧ (∀ i, i < l → C' id i = F i) ∧
  ∀ x, 0 < R x → S' x = S x ∧ C' x = C x
theorem sd_kc114 {post : Int32 → SX → Prop} {S : Nat → Nat} {C : Nat → Nat → Int32} {R : Nat → Nat} {id l : Nat} {mk : Int32} (hl : l ≤ 16) (hR : ∀ x, x < 96 → rf x = nI (R x)) (hb : ∀ x, x < 96 → R x ≤ 96)
    (H : sd_St (fun x => 0 < R x) S C sz bs ce py) (hB : ∀ j, j < l → sd_B (fr j)) (hid : id < 96) (h0 : R id = 0)
    (K : ∀ (id : Nat) (pl' : Int32) (rf' sz' bs' ce' py' pr' fA' fB' ou' un' pg' ch' : Nat → Int32) (S' : Nat → Nat) (C' : Nat → Nat → Int32), sd_KC R S C l fr id rf' sz' bs' ce' py' S' C' →
      post (nI id) (sg, pl', st, sv, pa, pt, rf', sz', bs', ce', py', pr', fA', fB', fr, ou', un', pg', ch')) :
    wX_keepChunk_114 post (nI l) mk (nI id) sg pl st sv pa pt rf sz bs ce py pr fA fB fr ou un pg ch := by
  have hi : vp_in (nI id) 96 := vp_in_nI hid (by decide)
  have ec : (nI id).toNatClampNeg = id := nI_clamp (by omega)
  have hn : ¬ 0 < R id := by omega
  have H0 : sd_St (fun x => 0 < R x) S C (upd sz id (nI l)) bs ce py := by
    intro z hz hLz
    have hzn : z ≠ id := fun e => hn (by rw [← e]; exact hLz)
    obtain ⟨⟨h1, h2, h3, h4⟩, h5⟩ := H z hz hLz
    exact ⟨⟨h1, (pk_un hzn).trans h2, h3, h4⟩, h5⟩
  have fin : ∀ (a b x : Int32), (x = -1 ∨ ∃ y : Nat, y < 96 ∧ 0 < R y ∧ sd_Dp bs 1 y ∧ x = nI y) →
      wpX_storeAgainst (fun u => match u with | (sg, pl, st, sv, pa, pt, rf, sz, bs, ce, py, pr, fA, fB, fr, ou, un, pg, ch) => post (nI id) (sg, pl, st, sv, pa, pt, rf, sz, bs, ce, py, pr, fA, fB, fr, ou, un, pg, ch)) (sg, pl, st, sv, pa, pt, upd rf id 1, upd sz id (nI l), bs, ce, py, upd pr id mk, upd fA id a, upd fB id b, fr, ou, un, pg, ch) (nI id) x (nI l) := by
    intro a b x hx
    refine sd_sa H0 hid hn hl hB pk_us hx ?_
    intro pl' bs' ce' py' ou' un' pg' ch' H'
    refine K id pl' _ _ bs' ce' py' _ _ _ ou' un' pg' ch' (sd_set S id l) (sd_set C id fr) ⟨hid, fun x hx => ?_, sd_St_iff H' (fun x hx => ?_), sd_set_s, fun i _ => by rw [sd_set_s], fun x hx => ?_⟩
    · by_cases e : x = id
      · subst e; rw [pk_us, sd_set_s, h0]; rfl
      · rw [pk_un e, sd_set_n e, hR x hx]
    · by_cases e : x = id
      · subst e; rw [sd_set_s]; exact ⟨fun _ => by omega, fun _ => Or.inr rfl⟩
      · rw [sd_set_n e]; exact ⟨fun h => h.resolve_right e, fun h => Or.inl h⟩
    · have e : x ≠ id := fun e => hn (by rw [← e]; exact hx)
      exact ⟨sd_set_n e, sd_set_n e⟩
  unfold wX_keepChunk_114
  refine sd_lw hl (fun a => ?_)
  refine sd_lw hl (fun b => ?_)
  refine sd_fs hl hR hb H ?_ ?_
  · refine ⟨hi, nm_r (e' := upd rf id 1) (by rw [ec]) ⟨hi, nm_r (e' := upd sz id (nI l)) (by rw [ec]) ⟨hi, nm_r (e' := upd pr id mk) (by rw [ec]) ⟨hi, nm_r (e' := upd fA id a) (by rw [ec]) ⟨hi, nm_r (e' := upd fB id b) (by rw [ec]) ?_⟩⟩⟩⟩⟩
    exact fin a b (-1) (Or.inl rfl)
  · intro y hy hRy hDy
    refine ⟨hi, nm_r (e' := upd rf id 1) (by rw [ec]) ⟨hi, nm_r (e' := upd sz id (nI l)) (by rw [ec]) ⟨hi, nm_r (e' := upd pr id mk) (by rw [ec]) ⟨hi, nm_r (e' := upd fA id a) (by rw [ec]) ⟨hi, nm_r (e' := upd fB id b) (by rw [ec]) ?_⟩⟩⟩⟩⟩
    exact fin a b (nI y) (Or.inr ⟨y, hy, hRy, hDy, rfl⟩)
theorem sd_kc91 {post : Int32 → SX → Prop} {S : Nat → Nat} {C : Nat → Nat → Int32} {R : Nat → Nat} {l : Nat} {mk : Int32} (hl : l ≤ 16) (hR : ∀ x, x < 96 → rf x = nI (R x)) (hb : ∀ x, x < 96 → R x ≤ 96)
    (H : sd_St (fun x => 0 < R x) S C sz bs ce py) (hB : ∀ j, j < l → sd_B (fr j)) (hfree : ∃ x, x < 96 ∧ R x = 0)
    (K : ∀ (id : Nat) (pl' : Int32) (rf' sz' bs' ce' py' pr' fA' fB' ou' un' pg' ch' : Nat → Int32) (S' : Nat → Nat) (C' : Nat → Nat → Int32), sd_KC R S C l fr id rf' sz' bs' ce' py' S' C' →
      post (nI id) (sg, pl', st, sv, pa, pt, rf', sz', bs', ce', py', pr', fA', fB', fr, ou', un', pg', ch')) :
    ∀ n id : Nat, id ≤ 95 → 95 - id < n → (∀ x, x < id → 0 < R x) → wX_keepChunk_91 post (nI l) mk sg pl st sv pa pt rf sz bs ce py pr fA fB fr ou un pg ch n (nI id) := by
  intro n
  induction n with
  | zero => intro id h1 h2; omega
  | succ n ih =>
    intro id h1 h2 hu
    have hbi := hb id (by omega)
    refine pk_le 95 id (fun h => ?_) (fun h => ?_)
    · have e : id = 95 := by omega
      subst e
      obtain ⟨x, hx, hx0⟩ := hfree
      have e2 : x = 95 := by
        apply Classical.byContradiction
        intro hne
        have := hu x (by omega)
        omega
      subst e2
      exact sd_kc114 hl hR hb H hB hx hx0 K
    · refine ⟨vp_in_nI (by omega) (by decide), ?_⟩
      rw [nI_clamp (n := id) (by omega)]
      refine pk_le (R id) 0 (fun hz => ?_) (fun hz => nm_r (nI_1 _) ?_) (hR id (by omega))
      · exact sd_kc114 hl hR hb H hB (by omega) (by omega) K
      · refine ih (id + 1) (by omega) (by omega) (fun x hx => ?_)
        by_cases e : x = id
        · subst e; exact hz
        · exact hu x (by omega)
theorem sd_kc33 {post : Int32 → SX → Prop} {S : Nat → Nat} {C : Nat → Nat → Int32} {R : Nat → Nat} {l : Nat} (hl : l ≤ 16) (hR : ∀ x, x < 96 → rf x = nI (R x)) (hb : ∀ x, x < 96 → R x ≤ 96)
    (H : sd_St (fun x => 0 < R x) S C sz bs ce py) (hB : ∀ j, j < l → sd_B (fr j)) (hfree : ∃ x, x < 96 ∧ R x = 0)
    (K : ∀ (id : Nat) (pl' : Int32) (rf' sz' bs' ce' py' pr' fA' fB' ou' un' pg' ch' : Nat → Int32) (S' : Nat → Nat) (C' : Nat → Nat → Int32), sd_KC R S C l fr id rf' sz' bs' ce' py' S' C' →
      post (nI id) (sg, pl', st, sv, pa, pt, rf', sz', bs', ce', py', pr', fA', fB', fr, ou', un', pg', ch')) :
    ∀ (n i : Nat) (mk : Int32), i ≤ l → l - i < n → wX_keepChunk_33 post (nI l) sg pl st sv pa pt rf sz bs ce py pr fA fB fr ou un pg ch n mk (nI i) := by
  intro n
  induction n with
  | zero => intro i mk h1 h2; omega
  | succ n ih =>
    intro i mk h1 h2
    refine pk_le l i (fun h => ?_) (fun h => ?_)
    · refine sd_fe hl hR hb H ?_ ?_
      · intro ou' un' ch'
        refine br_t (by decide) ⟨96, sd_kc91 hl hR hb H hB hfree K 96 0 (by omega) (by omega) (fun x hx => absurd hx (Nat.not_lt_zero _))⟩
      · intro id ou' un' ch' hid hRi hS hC
        have hi : vp_in (nI id) 96 := vp_in_nI hid (by decide)
        have ec : (nI id).toNatClampNeg = id := nI_clamp (by omega)
        refine br_f (nI_pos (by omega)) ⟨hi, hi, nm_r (e' := upd rf id (nI (R id + 1))) (by rw [ec, hR id hid, nI_1]) ?_⟩
        refine K id pl _ sz bs ce py pr fA fB ou' un' pg ch' S C ⟨hid, fun x hx => ?_, sd_St_iff H (fun x hx => ?_), hS, hC, fun x _ => ⟨rfl, rfl⟩⟩
        · by_cases e : x = id
          · subst e; rw [pk_us, sd_set_s]
          · rw [pk_un e, sd_set_n e, hR x hx]
        · by_cases e : x = id
          · subst e; rw [sd_set_s]; exact ⟨fun _ => by omega, fun _ => hRi⟩
          · rw [sd_set_n e]
    · exact ⟨vp_in_nI (by omega) (by decide), nm_e (nm_r (nI_1 _) (ih (i + 1) _ (by omega) (by omega)))⟩
theorem sd_kc2 {post : Int32 → SX → Prop} {f l : Nat} (hf : f + l ≤ 96) (hl : l ≤ 16) : ∀ (n i : Nat) (fr : Nat → Int32), i ≤ l → l - i < n → (∀ j, j < i → fr j = st (f + j)) →
    (∀ fr' : Nat → Int32, (∀ j, j < l → fr' j = st (f + j)) → ∃ n33, wX_keepChunk_33 post (nI l) sg pl st sv pa pt rf sz bs ce py pr fA fB fr' ou un pg ch n33 17 0) →
    wX_keepChunk_2 post (nI f) (nI l) sg pl n (nI i) st sv pa pt rf sz bs ce py pr fA fB fr ou un pg ch := by
  intro n
  induction n with
  | zero => intro i fr h1 h2; omega
  | succ n ih =>
    intro i fr h1 h2 ho K
    refine pk_le l i (fun h => ?_) (fun h => ?_)
    · exact K fr (fun j hj => ho j (by omega))
    · refine ⟨pk_in (f + i) 96 (by omega) (nI_add f i), vp_in_nI (by omega) (by decide), ?_⟩
      refine nm_r (e' := upd fr i (st (f + i))) (by rw [nI_add, nI_clamp (by omega), nI_clamp (by omega)]) (nm_r (nI_1 _) ?_)
      refine ih (i + 1) _ (by omega) (by omega) (fun j hj => ?_) K
      by_cases ej : j = i
      · subst ej; rw [pk_us]
      · rw [pk_un ej, ho j (by omega)]
/-- keepChunk -/
theorem sd_kc {post : Int32 → SX → Prop} {S : Nat → Nat} {C : Nat → Nat → Int32} {R : Nat → Nat} {f l : Nat} (hf : f + l ≤ 96) (hl : l ≤ 16) (hst : ∀ j, sd_B (st j)) (hR : ∀ x, x < 96 → rf x = nI (R x)) (hb : ∀ x, x < 96 → R x ≤ 96)
    (H : sd_St (fun x => 0 < R x) S C sz bs ce py) (hfree : ∃ x, x < 96 ∧ R x = 0)
    (K : ∀ (id : Nat) (pl' : Int32) (rf' sz' bs' ce' py' pr' fA' fB' fr' ou' un' pg' ch' : Nat → Int32) (S' : Nat → Nat) (C' : Nat → Nat → Int32), sd_KC R S C l (fun j => st (f + j)) id rf' sz' bs' ce' py' S' C' →
      post (nI id) (sg, pl', st, sv, pa, pt, rf', sz', bs', ce', py', pr', fA', fB', fr', ou', un', pg', ch')) :
    wpX_keepChunk post (sg, pl, st, sv, pa, pt, rf, sz, bs, ce, py, pr, fA, fB, fr, ou, un, pg, ch) (nI f) (nI l) := by
  unfold wpX_keepChunk
  refine ⟨l + 1, sd_kc2 hf hl (l + 1) 0 fr (by omega) (by omega) (fun j hj => absurd hj (Nat.not_lt_zero _)) ?_⟩
  intro fr' hfr
  refine ⟨l + 1, sd_kc33 hl hR hb H (fun j hj => by rw [hfr j hj]; exact hst _) hfree ?_ (l + 1) 0 17 (by omega) (by omega)⟩
  intro id pl' rf' sz' bs' ce' py' pr' fA' fB' ou' un' pg' ch' S' C' h
  refine K id pl' rf' sz' bs' ce' py' pr' fA' fB' fr' ou' un' pg' ch' S' C' ?_
  obtain ⟨h1, h2, h3, h4, h5, h6⟩ := h
  exact ⟨h1, h2, h3, h4, fun i hi => (h5 i hi).trans (hfr i hi), h6⟩
end
end
section
theorem sd_off_c2 {S S' q q' : Nat → Nat} : ∀ p : Nat, (∀ k, k < p → S' (q' k) = S (q k)) → sd_off S' q' p = sd_off S q p := by
  intro p
  induction p with
  | zero => intro _; rfl
  | succ p ih =>
    intro h
    show sd_off S' q' p + S' (q' p) = sd_off S q p + S (q p)
    rw [ih (fun k hk => h k (by omega)), h p (by omega)]
theorem sd_Sl_cong {S S' : Nat → Nat} {C C' : Nat → Nat → Int32} {pa pa' pt pt' : Nat → Int32} {s p z : Nat} {q q' : Nat → Nat} {F : Nat → Int32} (H : sd_Sl S C pa pt s p q F z) (h1 : pa' s = pa s)
    (h2 : ∀ k, k < p → pt' (s * 16 + k) = pt (s * 16 + k)) (h3 : ∀ k, k < p → q' k = q k) (h4 : ∀ k, k < p → S' (q k) = S (q k) ∧ C' (q k) = C (q k)) : sd_Sl S' C' pa' pt' s p q' F z := by
  obtain ⟨H1, H2, H3, H4, H5⟩ := H
  have ho : ∀ k, k ≤ p → sd_off S' q' k = sd_off S q k := fun k hk => sd_off_c2 k (fun j hj => by rw [h3 j (by omega), (h4 j (by omega)).1])
  refine ⟨H1, h1.trans H2, (ho p (Nat.le_refl _)).trans H3, H4, fun k hk => ?_⟩
  obtain ⟨g1, g2, g3⟩ := H5 k hk
  obtain ⟨a1, a2⟩ := h4 k hk
  rw [h2 k hk, h3 k hk, a1, a2, ho k (by omega)]
  exact ⟨g1, g2, g3⟩
theorem sd_Sl_F {S : Nat → Nat} {C : Nat → Nat → Int32} {pa pt : Nat → Int32} {s p z : Nat} {q : Nat → Nat} {F F' : Nat → Int32} (H : sd_Sl S C pa pt s p q F z) (h : ∀ i, i < z → F' i = F i) : sd_Sl S C pa pt s p q F' z := by
  obtain ⟨H1, H2, H3, H4, H5⟩ := H
  refine ⟨H1, H2, H3, H4, fun k hk => ?_⟩
  obtain ⟨g1, g2, g3⟩ := H5 k hk
  refine ⟨g1, g2, fun i hi => ?_⟩
  have h1 : sd_off S q (k + 1) ≤ sd_off S q p := sd_off_le (S := S) (q := q) (k + 1) p hk
  have h2 : sd_off S q (k + 1) = sd_off S q k + S (q k) := rfl
  rw [h _ (by omega), g3 i hi]
/-- the save under way: slot s holds the first f bytes of the stage -/
def sd_SI (s : Nat) (P0 Z : Nat → Nat) (st yb pa pt rf sz bs ce py : Nat → Int32) (P : Nat → Nat) (Q : Nat → Nat → Nat) (S : Nat → Nat) (C : Nat → Nat → Int32) (f : Nat) : Prop :=
  (∀ x, x < 96 → rf x = nI (sd_cnt P Q x)) ∧ sd_St (fun x => 0 < sd_cnt P Q x) S C sz bs ce py ∧ (∀ t, t ≠ s → P t = P0 t) ∧
  (∀ t, t < 6 → t ≠ s → sd_Sl S C pa pt t (P t) (Q t) (fun i => yb (t * 96 + i)) (Z t)) ∧ sd_Sl S C pa pt s (P s) (Q s) st f
theorem sd_SI_step {s id l f : Nat} {P0 Z : Nat → Nat} {st yb pa pt rf sz bs ce py rf' sz' bs' ce' py' : Nat → Int32} {P : Nat → Nat} {Q : Nat → Nat → Nat} {S S' : Nat → Nat} {C C' : Nat → Nat → Int32} (hs : s < 6) (hp : P s ≤ 15)
    (hf : f + l ≤ 96) (I : sd_SI s P0 Z st yb pa pt rf sz bs ce py P Q S C f) (hk : sd_KC (sd_cnt P Q) S C l (fun j => st (f + j)) id rf' sz' bs' ce' py' S' C') :
    sd_SI s P0 Z st yb (upd pa s (nI (P s + 1))) (upd pt (s * 16 + P s) (nI id)) rf' sz' bs' ce' py' (sd_set P s (P s + 1)) (sd_set Q s (sd_set (Q s) (P s) id)) S' C' (f + l) := by
  obtain ⟨I1, I2, I3, I4, I5⟩ := I
  obtain ⟨k1, k2, k3, k4, k5, k6⟩ := hk
  have hc : ∀ x, sd_set (sd_cnt P Q) id (sd_cnt P Q id + 1) x = sd_cnt (sd_set P s (P s + 1)) (sd_set Q s (sd_set (Q s) (P s) id)) x := by
    intro x
    have h1 := sd_sm_one (f := fun t => sd_ct (sd_set Q s (sd_set (Q s) (P s) id) t) x (sd_set P s (P s + 1) t)) (g := fun t => sd_ct (Q t) x (P t)) (t := s) 6 hs
      (fun t ht hn => by show sd_ct (sd_set Q s (sd_set (Q s) (P s) id) t) x (sd_set P s (P s + 1) t) = _; rw [sd_set_n hn, sd_set_n hn])
    have h2 : sd_ct (sd_set Q s (sd_set (Q s) (P s) id) s) x (sd_set P s (P s + 1) s) = sd_ct (Q s) x (P s) + (if id = x then 1 else 0) := by
      rw [sd_set_s, sd_set_s]
      show sd_ct (sd_set (Q s) (P s) id) x (P s) + (if sd_set (Q s) (P s) id (P s) = x then 1 else 0) = _
      rw [sd_set_s, sd_ct_cong (q := Q s) (P s) (fun k hk => sd_set_n (by omega))]
    have h3 : sd_cnt (sd_set P s (P s + 1)) (sd_set Q s (sd_set (Q s) (P s) id)) x + sd_ct (Q s) x (P s) = sd_cnt P Q x + sd_ct (sd_set Q s (sd_set (Q s) (P s) id) s) x (sd_set P s (P s + 1) s) := h1
    rw [h2] at h3
    by_cases e : x = id
    · subst e; rw [sd_set_s]; rw [if_pos rfl] at h3; omega
    · rw [sd_set_n e]; rw [if_neg (fun z => e z.symm)] at h3; omega
  refine ⟨fun x hx => by rw [k2 x hx, hc x], sd_St_iff k3 (fun x hx => by rw [hc x]), fun t ht => (sd_set_n ht).trans (I3 t ht), fun t ht hn => ?_, ?_⟩
  · rw [sd_set_n hn, sd_set_n hn]
    have h16 := (I4 t ht hn).1
    exact sd_Sl_cong (I4 t ht hn) (pk_un hn) (fun k hk => pk_un (by omega)) (fun k hk => rfl) (fun k hk => k6 _ (sd_cnt_pos ht hk))
  · rw [sd_set_s, sd_set_s]
    obtain ⟨S1, S2, S3, S4, S5⟩ := sd_Sl_cong (pa' := pa) (pt' := upd pt (s * 16 + P s) (nI id)) (q' := sd_set (Q s) (P s) id) (S' := S') (C' := C') I5 rfl (fun k hk => pk_un (by omega)) (fun k hk => sd_set_n (by omega)) (fun k hk => k6 _ (sd_cnt_pos hs hk))
    refine ⟨by omega, pk_us, ?_, hf, fun k hk => ?_⟩
    · show sd_off S' (sd_set (Q s) (P s) id) (P s) + S' (sd_set (Q s) (P s) id (P s)) = f + l
      rw [S3, sd_set_s, k4]
    · by_cases e : k = P s
      · subst e
        rw [sd_set_s, pk_us, S3, k4]
        exact ⟨rfl, k1, fun i hi => (k5 i hi).symm⟩
      · exact S5 k (by omega)
section
variable {sg pl : Int32} {st sv pa pt rf sz bs ce py pr fA fB fr ou un pg ch : Nat → Int32} {ys yb : Nat → Int32}
theorem sd_sv40 {post : Int32 → SX → Prop} {s n : Nat} {P0 Z : Nat → Nat} (hs : s < 6) (hn : n ≤ 96) (hst : ∀ j, sd_B (st j))
    (K : ∀ (pl : Int32) (pa pt rf sz bs ce py pr fA fB fr ou un pg ch : Nat → Int32) (P : Nat → Nat) (Q : Nat → Nat → Nat) (S : Nat → Nat) (C : Nat → Nat → Int32), sd_SI s P0 Z st yb pa pt rf sz bs ce py P Q S C n → post (nI n) (nI n, pl, st, sv, pa, pt, rf, sz, bs, ce, py, pr, fA, fB, fr, ou, un, pg, ch)) :
    ∀ (k f i : Nat) (pl : Int32) (pa pt rf sz bs ce py pr fA fB fr ou un pg ch : Nat → Int32) (P : Nat → Nat) (Q : Nat → Nat → Nat) (S : Nat → Nat) (C : Nat → Nat → Int32), n - i < k →
    ((i < n ∧ 6 * P s ≤ f ∧ f ≤ i ∧ i < f + 16) ∨ (i = n ∧ f = n)) → sd_SI s P0 Z st yb pa pt rf sz bs ce py P Q S C f → wX_save_40 post (nI s) k (nI f) (nI i) (nI n) pl st sv pa pt rf sz bs ce py pr fA fB fr ou un pg ch := by
  intro k
  induction k with
  | zero => intro f i pl pa pt rf sz bs ce py pr fA fB fr ou un pg ch P Q S C h1; omega
  | succ k ih =>
    intro f i pl pa pt rf sz bs ce py pr fA fB fr ou un pg ch P Q S C h1 h2 I
    have go : i < n → 6 * P s ≤ f → f ≤ i → i < f + 16 → (i + 1 < n → 6 * (P s + 1) ≤ i + 1) → wX_save_67 post (wX_save_40 post (nI s) k) (nI s) (nI f) (nI i) (nI n) pl st sv pa pt rf sz bs ce py pr fA fB fr ou un pg ch := by
      intro g1 g2 g3 g4 g5
      have hp : P s ≤ 15 := by omega
      have hi : vp_in (nI s) 6 := vp_in_nI hs (by decide)
      have ec : (nI s).toNatClampNeg = s := nI_clamp (by omega)
      have e1 : nI i + 1 - nI f = nI (i + 1 - f) := by rw [nI_1, pk_sub (by omega)]
      have hP : ∀ t, t < 6 → P t ≤ 16 := by
        intro t ht
        by_cases e : t = s
        · subst e; omega
        · exact (I.2.2.2.1 t ht e).1
      have hq : ∀ t, t < 6 → ∀ k, k < P t → Q t k < 96 := by
        intro t ht k hk
        by_cases e : t = s
        · subst e; exact (I.2.2.2.2.2.2.2.2 k hk).2.1
        · exact ((I.2.2.2.1 t ht e).2.2.2.2 k hk).2.1
      have hsm : sd_sm P 6 ≤ 95 := by
        have a1 : sd_sm P 6 ≤ sd_sm (sd_set (fun _ => 16) s 15) 6 := sd_sm_mono 6 (fun t ht => by
          by_cases e : t = s
          · subst e; rw [sd_set_s]; exact hp
          · rw [sd_set_n e]; exact hP t ht)
        have a2 := sd_sm_one (f := sd_set (fun _ => 16) s 15) (g := fun _ => 16) (t := s) 6 hs (fun t ht hn => sd_set_n hn)
        have a3 : sd_sm (fun _ => 16) 6 = 96 := rfl
        rw [a3, sd_set_s] at a2
        have a4 : sd_sm (sd_set (fun _ => 16) s 15) 6 + 16 = 96 + 15 := a2
        omega
      have hpa : pa s = nI (P s) := I.2.2.2.2.2.1
      unfold wX_save_67
      rw [e1]
      refine sd_kc (by omega) (by omega) hst I.1 (fun x _ => sd_cnt_le hP) I.2.1 (sd_free hq hsm) ?_
      intro id pl' rf' sz' bs' ce' py' pr' fA' fB' fr' ou' un' pg' ch' S' C' hk
      have I' := sd_SI_step hs hp (by omega) I hk
      have e2 : f + (i + 1 - f) = i + 1 := by omega
      rw [e2] at I'
      refine And.intro hi ?_
      rw [ec, hpa, sd_ix, nI_clamp (n := s * 16 + P s) (by omega)]
      refine ⟨vp_in_nI (by omega) (by decide), nm_e ⟨hi, hi, nm_r (e' := upd pa s (nI (P s + 1))) (by rw [nI_1]) (nm_r (nI_1 _) (nm_r (nI_1 _) ?_))⟩⟩
      refine ih (i + 1) (i + 1) pl' _ _ rf' sz' bs' ce' py' pr' fA' fB' fr' ou' un' pg' ch' _ _ S' C' (by omega) ?_ I'
      rw [sd_set_s]
      omega
    refine pk_le n i (fun h => ?_) (fun h => ?_) rfl rfl (by omega) (by omega)
    · have e : f = n := by omega
      subst e
      exact K pl pa pt rf sz bs ce py pr fA fB fr ou un pg ch P Q S C I
    · have h3 : 6 * P s ≤ f ∧ f ≤ i ∧ i < f + 16 := by omega
      obtain ⟨g2, g3, g4⟩ := h3
      refine pk_eq i (n - 1) (fun e => ?_) (fun e => ?_) rfl (pk_sub (b := 1) (by omega))
      · exact go h g2 g3 g4 (fun _ => by omega)
      · refine sd_bd g3 (by omega) (fun hb => br_t rfl (nm_r (nI_1 _) ?_)) (fun hb => br_f (by decide) (go h g2 g3 g4 (fun _ => by omega)))
        exact ih f (i + 1) pl pa pt rf sz bs ce py pr fA fB fr ou un pg ch P Q S C (by omega) (Or.inl ⟨by omega, g2, by omega, by omega⟩) I
theorem sd_ysv {post : Int32 → SY → Prop} {s n : Nat} (hs : s < 6) (hn : n ≤ 96) : ∀ (k i : Nat) (yb : Nat → Int32), i ≤ n → n - i < k → (∀ j, j < i → yb (s * 96 + j) = st j) →
    (∀ yb' : Nat → Int32, (∀ t j : Nat, t ≠ s → j < 96 → yb' (t * 96 + j) = yb (t * 96 + j)) → (∀ j, j < n → yb' (s * 96 + j) = st j) →
      post (nI n) (nI n, st, upd sv s (vp_nar .boolean 1), upd ys s (nI n), yb')) → wY_save_24 post (nI s) (nI n) k (nI i) st sv ys yb := by
  have hi : vp_in (nI s) 6 := vp_in_nI hs (by decide)
  have ec : (nI s).toNatClampNeg = s := nI_clamp (by omega)
  intro k
  induction k with
  | zero => intro i yb h1 h2; omega
  | succ k ih =>
    intro i yb h1 h2 ho K
    refine pk_le n i (fun h => ?_) (fun h => ?_)
    · exact ⟨hi, nm_r (e' := upd ys s (nI n)) (by rw [ec]) ⟨hi, nm_r (e' := upd sv s (vp_nar .boolean 1)) (by rw [ec]) (K yb (fun _ _ _ _ => rfl) (fun j hj => ho j (by omega)))⟩⟩
    · refine ⟨vp_in_nI (by omega) (by decide), pk_in (s * 96 + i) 576 (by omega) (sd_ix96 s i), ?_⟩
      refine nm_r (e' := upd yb (s * 96 + i) (st i)) (by rw [sd_ix96, nI_clamp (by omega), nI_clamp (by omega)]) (nm_r (nI_1 _) ?_)
      refine ih (i + 1) _ (by omega) (by omega) (fun j hj => ?_) (fun yb' hf hp => K yb' (fun t j ht hj => ?_) hp)
      · by_cases ej : j = i
        · subst ej; rw [pk_us]
        · rw [pk_un (by omega), ho j (by omega)]
      · rw [hf t j ht hj, pk_un (by omega)]
end
theorem i_vc_save {k : Nat} {u : SX} {v : SY} (I : i_Rel k u v) (hk : k + 4 ≤ 2048) (v1 : Int32) : wpX_save (fun r u' => wpY_save (fun r' v' => r' = r ∧ i_Rel (k + 4) u' v') v v1) u v1 := by
  refine sd_el (G := fun u v => wpX_save (fun r u' => wpY_save (fun r' v' => r' = r ∧ i_Rel (k + 4) u' v') v v1) u v1) I ?_
  intro n pl st sv pa pt rf sz bs ce py pr fA fB fr ou un pg ch ys yb P Q Z S C R
  unfold wpX_save wpY_save
  by_cases hx : sd_sl v1
  · obtain ⟨s, hs, rfl⟩ := hx
    have hi : vp_in (nI s) 6 := vp_in_nI hs (by decide)
    have ec : (nI s).toNatClampNeg = s := nI_clamp (by omega)
    refine sd_bad_f hs (br_t rfl ⟨hi, ?_⟩)
    rw [ec]
    by_cases hv : sv s = 0
    · obtain ⟨R1, R2, R3, R4, R5⟩ := R
      have hP0 := (R5 s hs).2.1 hv
      refine br_t hv ⟨hi, nm_e ⟨hi, nm_e ⟨n + 1, ?_⟩⟩⟩
      refine sd_sv40 (yb := yb) (P0 := P) (Z := Z) hs R1 R2 ?_ (n + 1) 0 0 pl (upd pa s 0) pt rf sz bs ce py pr fA fB fr ou un pg ch P Q S C (by omega) (by omega)
        ⟨R3, R4, fun t _ => rfl, fun t ht hn => sd_Sl_cong (R5 t ht).1 (pk_un hn) (fun _ _ => rfl) (fun _ _ => rfl) (fun _ _ => ⟨rfl, rfl⟩), ?_⟩
      · intro pl pa pt rf sz bs ce py pr fA fB fr ou un pg ch P' Q' S' C' I'
        obtain ⟨I1, I2, I3, I4, I5⟩ := I'
        refine sd_ym_no hs hv (br_f (by decide) (br_f (by decide) ⟨n + 1, ?_⟩))
        refine sd_ysv hs R1 (n + 1) 0 yb (by omega) (by omega) (fun j hj => absurd hj (Nat.not_lt_zero _)) ?_
        intro yb' hf hp
        refine ⟨rfl, sd_in (n := n) (P := P') (Q := Q') (Z := sd_set Z s n) (S := S') (C := C') ⟨R1, R2, I1, I2, fun t ht => ?_⟩⟩
        by_cases e : t = s
        · subst e
          rw [sd_set_s, pk_us, pk_us]
          exact ⟨sd_Sl_F I5 hp, fun h => absurd h (by decide), fun _ => rfl⟩
        · rw [sd_set_n e, pk_un e, pk_un e]
          have hz := (I4 t ht e).2.2.2.1
          exact ⟨sd_Sl_F (I4 t ht e) (fun i hi => hf t i e (by omega)), fun h => (I3 t e).trans ((R5 t ht).2.1 h), (R5 t ht).2.2⟩
      · rw [hP0]
        exact ⟨by omega, pk_us, rfl, by omega, fun k hk => absurd hk (Nat.not_lt_zero _)⟩
    · refine br_f hv (sd_ym_ok hs hv (br_f (by decide) (br_t rfl ⟨rfl, sd_in (n := n) R⟩)))
  · refine sd_bad_t hx (br_f (by decide) ?_)
    exact sd_ym_bad hx (br_t rfl ⟨rfl, sd_in (n := n) R⟩)
end
