section
theorem pk_us {f : Nat → Int32} {k : Nat} {x : Int32} : upd f k x k = x := if_pos rfl
theorem pk_un {f : Nat → Int32} {k j : Nat} {x : Int32} (h : j ≠ k) : upd f k x j = f j := if_neg h
theorem pk_sub {a b : Nat} (h : b ≤ a) : nI a - nI b = nI (a - b) := by
  obtain ⟨c, rfl⟩ : ∃ c, a = c + b := ⟨a - b, by omega⟩
  rw [← nI_add, Int32.add_sub_cancel, Nat.add_sub_cancel]
theorem pk_m1 (n : Nat) : nI (n + 1) + (-1) = nI n := by
  rw [← nI_1, Int32.add_assoc, show (1 : Int32) + (-1) = 0 from rfl, Int32.add_zero]
theorem pk_mul (a b : Nat) : nI a * nI b = nI (a * b) := (Int32.ofNat_mul a b).symm
theorem pk_div {a d : Nat} (ha : a < 2 ^ 31) (h0 : 0 < d) (hd : d < 2 ^ 31) : nI a / nI d = nI (a / d) := by
  apply Int32.toInt_inj.mp
  rw [lg_idiv_nonneg (by rw [nI_toInt ha]; omega) (by rw [nI_toInt hd]; omega), nI_toInt ha, nI_toInt hd, nI_toInt (Nat.lt_of_le_of_lt (Nat.div_le_self a d) ha)]
  first | rfl | exact (Int.natCast_ediv _ _).symm
theorem pk_rem {a d : Nat} (ha : a < 2 ^ 31) (h0 : 0 < d) (hd : d < 2 ^ 31) : nI a - nI a / nI d * nI d = nI (a % d) := by
  rw [pk_div ha h0 hd, pk_mul, pk_sub (Nat.div_mul_le_self a d)]
  exact congrArg nI (by have := Nat.div_add_mod' a d; omega)
theorem pk_sub_toInt {a b : Nat} (ha : a < 2 ^ 30) (hb : b < 2 ^ 30) : (nI a - nI b).toInt = (a : Int) - b := by
  rw [Int32.toInt_sub, nI_toInt (by omega), nI_toInt (by omega)]
  exact Int.bmod_eq_of_le (by omega) (by omega)
theorem pk_sneg {a b : Nat} (hb : b < 2 ^ 30) (h : a < b) : nI a - nI b < 0 := by
  rw [Int32.lt_iff_toInt_lt, pk_sub_toInt (by omega) hb, show (0 : Int32).toInt = 0 from by decide]
  omega
theorem pk_ix (x : Int32) {n : Nat} (hn : n < 2 ^ 31) : x < 0 ∨ nI n ≤ x ∨ ∃ j : Nat, j < n ∧ x = nI j := by
  by_cases h : x < 0
  · exact Or.inl h
  · obtain ⟨j, hj, rfl⟩ := nI_of h
    by_cases h2 : j < n
    · exact Or.inr (Or.inr ⟨j, h2, rfl⟩)
    · exact Or.inr (Or.inl (nI_le (by omega) hj))
theorem pk_le {x y : Int32} {A B : Prop} (a b : Nat) (f : a ≤ b → A) (g : b < a → B) (hx : x = nI a := by rfl) (hy : y = nI b := by rfl) (ha : a < 2 ^ 31 := by omega) (hb : b < 2 ^ 31 := by omega) : (x ≤ y → A) ∧ (¬ x ≤ y → B) := by
  subst hx hy
  rw [nI_leI ha hb]
  exact ⟨f, fun z => g (by omega)⟩
theorem pk_lt {x y : Int32} {A B : Prop} (a b : Nat) (f : a < b → A) (g : b ≤ a → B) (hx : x = nI a := by rfl) (hy : y = nI b := by rfl) (ha : a < 2 ^ 31 := by omega) (hb : b < 2 ^ 31 := by omega) : (x < y → A) ∧ (¬ x < y → B) := by
  subst hx hy
  rw [nI_ltI ha hb]
  exact ⟨f, fun z => g (by omega)⟩
theorem pk_eq {x y : Int32} {A B : Prop} (a b : Nat) (f : a = b → A) (g : a ≠ b → B) (hx : x = nI a := by rfl) (hy : y = nI b := by rfl) (ha : a < 2 ^ 31 := by omega) (hb : b < 2 ^ 31 := by omega) : (x = y → A) ∧ (¬ x = y → B) := by
  subst hx hy
  rw [nI_eq ha hb]
  exact ⟨f, g⟩
theorem pk_in {x : Int32} (n N : Nat) (h : n < N) (hx : x = nI n := by rfl) (hN : N < 2 ^ 31 := by omega) : vp_in x N := by
  subst hx
  exact vp_in_nI h hN
theorem pk_cl {x : Int32} (n : Nat) (hx : x = nI n := by rfl) (h : n < 2 ^ 31 := by omega) : x.toNatClampNeg = n := by
  subst hx
  exact nI_clamp h
theorem pk_tn {n : Nat} (h : n < 2 ^ 32) : (nI n).toBitVec.toNat = n := Nat.mod_eq_of_lt h
theorem pk_and (x : Int32) {m : Int32} (k : Nat) (hm : m.toBitVec.toNat = 2 ^ k - 1) : x &&& m = nI (x.toBitVec.toNat % 2 ^ k) := by
  apply Int32.toBitVec_inj.mp
  apply BitVec.eq_of_toNat_eq
  rw [Int32.toBitVec_and, BitVec.toNat_and, hm, Nat.and_two_pow_sub_one_eq_mod]
  show _ = (BitVec.ofNat 32 _).toNat
  rw [BitVec.toNat_ofNat]
  exact (Nat.mod_eq_of_lt (Nat.lt_of_le_of_lt (Nat.mod_le _ _) x.toBitVec.isLt)).symm
theorem pk_andN {n : Nat} (h : n < 2 ^ 32) {m : Int32} (k : Nat) (hm : m.toBitVec.toNat = 2 ^ k - 1) : nI n &&& m = nI (n % 2 ^ k) := by
  rw [pk_and _ k hm, pk_tn h]
theorem pk_shl (a s : Int32) (k : Nat) (hs : (s.toBitVec.smod 32).toNat = k) : (a <<< s).toBitVec.toNat = a.toBitVec.toNat * 2 ^ k % 2 ^ 32 := by
  show (a.toBitVec <<< (s.toBitVec.smod 32).toNat).toNat = _
  rw [hs, BitVec.toNat_shiftLeft, Nat.shiftLeft_eq]
theorem pk_shlN {n : Nat} (s : Int32) (k : Nat) (hs : (s.toBitVec.smod 32).toNat = k) (h : n * 2 ^ k < 2 ^ 32) : nI n <<< s = nI (n * 2 ^ k) := by
  apply Int32.toBitVec_inj.mp
  apply BitVec.eq_of_toNat_eq
  have hn : n < 2 ^ 32 := Nat.lt_of_le_of_lt (Nat.le_mul_of_pos_right n (Nat.two_pow_pos k)) h
  rw [pk_shl _ _ k hs, pk_tn hn, pk_tn h, Nat.mod_eq_of_lt h]
theorem pk_shr (a s : Int32) (k : Nat) (hs : (s.toBitVec.smod 32).toNat = k) : (a >>> s).toInt = a.toInt >>> k := by
  show (a.toBitVec.sshiftRight (s.toBitVec.smod 32).toNat).toInt = _
  rw [hs, BitVec.toInt_sshiftRight]
  rfl
theorem pk_shrN {n : Nat} (h : n < 2 ^ 31) (s : Int32) (k : Nat) (hs : (s.toBitVec.smod 32).toNat = k) : nI n >>> s = nI (n / 2 ^ k) := by
  apply Int32.toInt_inj.mp
  have h2 : n / 2 ^ k ≤ n := Nat.div_le_self _ _
  rw [pk_shr _ _ k hs, nI_toInt h, nI_toInt (by omega), Int.shiftRight_eq_div_pow]
  rfl
theorem pk_vb (z : Int32) : vp_nar .byte z.toInt8.toInt32 = z.toInt8.toInt32 := by rw [vp_nar_byte]; simp
theorem ek_if {c d A B : Prop} (e : c ↔ d) (f : d → A) (g : ¬ d → B) : (c → A) ∧ (¬ c → B) :=
  ⟨fun z => f (e.mp z), fun z => g (fun y => z (e.mpr y))⟩
theorem nx_and (a b : Nat) : nI a &&& nI b = nI (a &&& b) := by
  apply Int32.toBitVec_inj.1
  show BitVec.ofNat 32 a &&& BitVec.ofNat 32 b = BitVec.ofNat 32 (a &&& b)
  apply BitVec.eq_of_getLsbD_eq
  intro i hi
  simp [hi]
theorem nx_xor (a b : Nat) : nI a ^^^ nI b = nI (a ^^^ b) := by
  apply Int32.toBitVec_inj.1
  show BitVec.ofNat 32 a ^^^ BitVec.ofNat 32 b = BitVec.ofNat 32 (a ^^^ b)
  apply BitVec.eq_of_getLsbD_eq
  intro i hi
  simp [hi]
end
section
/-! row insertion on lists of naturals; seven rows; Knuth triples -/
abbrev rs_S (R : List Nat) : Prop := R.Pairwise (fun a b => a ≤ b)
def rs_ins : List Nat → Nat → List Nat × Option Nat
  | [], x => ([x], none)
  | a :: R, x => if x < a then (x :: R, some a) else (a :: (rs_ins R x).1, (rs_ins R x).2)
theorem rs_nil (x : Nat) : rs_ins [] x = ([x], none) := rfl
theorem rs_lt {a x : Nat} (R : List Nat) (h : x < a) : rs_ins (a :: R) x = (x :: R, some a) := by
  rw [rs_ins, if_pos h]
theorem rs_ge {a x : Nat} (R : List Nat) (h : a ≤ x) : rs_ins (a :: R) x = (a :: (rs_ins R x).1, (rs_ins R x).2) := by
  rw [rs_ins, if_neg (by omega)]
theorem rs_mem : ∀ (R : List Nat) (x y : Nat), y ∈ (rs_ins R x).1 → y = x ∨ y ∈ R := by
  intro R
  induction R with
  | nil => intro x y h; rw [rs_nil] at h; simp at h; exact Or.inl h
  | cons a R ih =>
    intro x y h
    by_cases c : x < a
    · rw [rs_lt R c] at h
      simp only [List.mem_cons] at h ⊢
      rcases h with h | h
      · exact Or.inl h
      · exact Or.inr (Or.inr h)
    · rw [rs_ge R (by omega)] at h
      simp only [List.mem_cons] at h ⊢
      rcases h with h | h
      · exact Or.inr (Or.inl h)
      · rcases ih x y h with h | h
        · exact Or.inl h
        · exact Or.inr (Or.inr h)
theorem rs_bump : ∀ (R : List Nat) (x b : Nat), (rs_ins R x).2 = some b → x < b ∧ b ∈ R := by
  intro R
  induction R with
  | nil => intro x b h; rw [rs_nil] at h; cases h
  | cons a R ih =>
    intro x b h
    by_cases c : x < a
    · rw [rs_lt R c] at h
      cases h
      exact ⟨c, List.mem_cons_self⟩
    · rw [rs_ge R (by omega)] at h
      exact ⟨(ih x b h).1, List.mem_cons_of_mem _ (ih x b h).2⟩
theorem rs_srt : ∀ (R : List Nat) (x : Nat), rs_S R → rs_S (rs_ins R x).1 := by
  intro R
  induction R with
  | nil => intro x h; rw [rs_nil]; exact List.pairwise_singleton _ _
  | cons a R ih =>
    intro x h
    have h2 := List.pairwise_cons.mp h
    by_cases c : x < a
    · rw [rs_lt R c]
      exact List.pairwise_cons.mpr ⟨fun b hb => Nat.le_trans (Nat.le_of_lt c) (h2.1 b hb), h2.2⟩
    · rw [rs_ge R (by omega)]
      refine List.pairwise_cons.mpr ⟨fun b hb => ?_, ih x h2.2⟩
      rcases rs_mem R x b hb with e | e
      · omega
      · exact h2.1 b e
theorem rs_none : ∀ (R : List Nat) (x : Nat), (rs_ins R x).2 = none → (rs_ins R x).1 = R ++ [x] := by
  intro R
  induction R with
  | nil => intro x h; rfl
  | cons a R ih =>
    intro x h
    by_cases c : x < a
    · rw [rs_lt R c] at h; cases h
    · rw [rs_ge R (by omega)] at h ⊢
      show a :: (rs_ins R x).1 = _
      rw [ih x h]; rfl
theorem rs_some : ∀ (R : List Nat) (x b : Nat), (rs_ins R x).2 = some b → (rs_ins R x).1.length = R.length := by
  intro R
  induction R with
  | nil => intro x b h; cases h
  | cons a R ih =>
    intro x b h
    by_cases c : x < a
    · rw [rs_lt R c]; rfl
    · rw [rs_ge R (by omega)] at h ⊢
      show (rs_ins R x).1.length + 1 = _
      rw [ih x b h]; rfl
theorem rs_self : ∀ (R : List Nat) (x : Nat), x ∈ (rs_ins R x).1 := by
  intro R
  induction R with
  | nil => intro x; exact List.mem_cons_self
  | cons a R ih =>
    intro x
    by_cases c : x < a
    · rw [rs_lt R c]; exact List.mem_cons_self
    · rw [rs_ge R (by omega)]; exact List.mem_cons_of_mem _ (ih x)
/-- where a greater entry stands, something no greater than it comes out -/
theorem rs_out : ∀ (S : List Nat) (y z : Nat), rs_S S → z ∈ S → y < z → ∃ b, (rs_ins S y).2 = some b ∧ b ≤ z ∧ b ∈ S := by
  intro S
  induction S with
  | nil => intro y z _ h; cases h
  | cons s S ih =>
    intro y z hs hz hy
    have h2 := List.pairwise_cons.mp hs
    have hsz : s = z ∨ z ∈ S := by
      rcases List.mem_cons.mp hz with e | e
      · exact Or.inl e.symm
      · exact Or.inr e
    by_cases c : y < s
    · rw [rs_lt S c]
      refine ⟨s, rfl, ?_, List.mem_cons_self⟩
      rcases hsz with e | e
      · omega
      · exact h2.1 z e
    · rw [rs_ge S (by omega)]
      rcases hsz with e | e
      · omega
      · obtain ⟨b, h3, h4, h5⟩ := ih y z h2.2 e hy
        exact ⟨b, h3, h4, List.mem_cons_of_mem _ h5⟩
/-- two letters that rise: what they push out rises too -/
theorem rs_two : ∀ (R : List Nat) (y z : Nat), rs_S R → y ≤ z →
    ((rs_ins R y).2 = none → (rs_ins (rs_ins R y).1 z).2 = none) ∧
    (∀ b d, (rs_ins R y).2 = some b → (rs_ins (rs_ins R y).1 z).2 = some d → b ≤ d) := by
  intro R
  induction R with
  | nil =>
    intro y z _ h
    rw [rs_nil]
    show ((none : Option Nat) = none → (rs_ins [y] z).2 = none) ∧ _
    rw [rs_ge [] h]
    exact ⟨fun _ => rfl, fun b d e => by cases e⟩
  | cons a R ih =>
    intro y z hs h
    have h2 := List.pairwise_cons.mp hs
    by_cases c : y < a
    · rw [rs_lt R c]
      show ((some a : Option Nat) = none → (rs_ins (y :: R) z).2 = none) ∧ ∀ b d, (some a : Option Nat) = some b → (rs_ins (y :: R) z).2 = some d → b ≤ d
      rw [rs_ge R h]
      refine ⟨fun e => (by cases e), fun b d e e2 => ?_⟩
      cases e
      exact h2.1 d (rs_bump R z d e2).2
    · rw [rs_ge R (show a ≤ y by omega)]
      show ((rs_ins R y).2 = none → (rs_ins (a :: (rs_ins R y).1) z).2 = none) ∧ ∀ b d, (rs_ins R y).2 = some b → (rs_ins (a :: (rs_ins R y).1) z).2 = some d → b ≤ d
      rw [rs_ge _ (show a ≤ z by omega)]
      exact ih y z h2.2 h
def rs_insW : List Nat → List Nat → List Nat × List Nat
  | R, [] => (R, [])
  | R, x :: v => ((rs_insW (rs_ins R x).1 v).1, (rs_ins R x).2.toList ++ (rs_insW (rs_ins R x).1 v).2)
theorem rs_W0 (R : List Nat) : rs_insW R [] = (R, []) := rfl
theorem rs_W1 (R : List Nat) (x : Nat) (v : List Nat) : rs_insW R (x :: v) = ((rs_insW (rs_ins R x).1 v).1, (rs_ins R x).2.toList ++ (rs_insW (rs_ins R x).1 v).2) := rfl
theorem rs_W3 (R : List Nat) (x y z : Nat) : rs_insW R [x, y, z] = ((rs_ins (rs_ins (rs_ins R x).1 y).1 z).1, (rs_ins R x).2.toList ++ ((rs_ins (rs_ins R x).1 y).2.toList ++ (rs_ins (rs_ins (rs_ins R x).1 y).1 z).2.toList)) := by
  rw [rs_W1, rs_W1, rs_W1, rs_W0]
  simp
/-- an entry that all three letters pass -/
theorem rs_pass (a : Nat) (R : List Nat) (x y z : Nat) (hx : a ≤ x) (hy : a ≤ y) (hz : a ≤ z) : rs_insW (a :: R) [x, y, z] = (a :: (rs_insW R [x, y, z]).1, (rs_insW R [x, y, z]).2) := by
  rw [rs_W3, rs_W3, rs_ge R hx]
  show ((rs_ins (rs_ins (a :: (rs_ins R x).1) y).1 z).1, (rs_ins R x).2.toList ++ ((rs_ins (a :: (rs_ins R x).1) y).2.toList ++ (rs_ins (rs_ins (a :: (rs_ins R x).1) y).1 z).2.toList)) = _
  rw [rs_ge _ hy]
  show ((rs_ins (a :: (rs_ins (rs_ins R x).1 y).1) z).1, (rs_ins R x).2.toList ++ ((rs_ins (rs_ins R x).1 y).2.toList ++ (rs_ins (a :: (rs_ins (rs_ins R x).1 y).1) z).2.toList)) = _
  rw [rs_ge _ hz]
/-- the two kinds of triples, each in both directions -/
def kn_tri (u v : List Nat) : Prop := ∃ x y z : Nat,
  (x ≤ y ∧ y < z ∧ ((u = [x, z, y] ∧ v = [z, x, y]) ∨ (u = [z, x, y] ∧ v = [x, z, y]))) ∨
  (x < y ∧ y ≤ z ∧ ((u = [y, x, z] ∧ v = [y, z, x]) ∨ (u = [y, z, x] ∧ v = [y, x, z])))
theorem kn_tri_symm {u v : List Nat} (h : kn_tri u v) : kn_tri v u := by
  obtain ⟨x, y, z, h⟩ := h
  refine ⟨x, y, z, ?_⟩
  rcases h with ⟨a, b, c | c⟩ | ⟨a, b, c | c⟩
  · exact Or.inl ⟨a, b, Or.inr ⟨c.2, c.1⟩⟩
  · exact Or.inl ⟨a, b, Or.inl ⟨c.2, c.1⟩⟩
  · exact Or.inr ⟨a, b, Or.inr ⟨c.2, c.1⟩⟩
  · exact Or.inr ⟨a, b, Or.inl ⟨c.2, c.1⟩⟩
def kn_rel (u v : List Nat) : Prop := u = v ∨ kn_tri u v
theorem kn_rel_symm {u v : List Nat} (h : kn_rel u v) : kn_rel v u := by
  rcases h with h | h
  · exact Or.inl h.symm
  · exact Or.inr (kn_tri_symm h)
theorem rs_A : ∀ (R : List Nat) (x y z : Nat), rs_S R → x ≤ y → y < z →
    (rs_insW R [x, z, y]).1 = (rs_insW R [z, x, y]).1 ∧ kn_rel (rs_insW R [x, z, y]).2 (rs_insW R [z, x, y]).2 := by
  intro R
  induction R with
  | nil =>
    intro x y z _ h1 h2
    have hxz : x < z := by omega
    rw [rs_W3, rs_W3]
    simp only [rs_nil, rs_ge [] (Nat.le_of_lt hxz), rs_lt [] hxz]
    rw [rs_ge [z] h1, rs_lt [] h2, rs_ge [] h1, rs_nil]
    exact ⟨rfl, Or.inl rfl⟩
  | cons a R ih =>
    intro x y z hs h1 h2
    have hp := List.pairwise_cons.mp hs
    have hxz : x ≤ z := by omega
    by_cases c : a ≤ x
    · rw [rs_pass a R x z y c (by omega) (by omega), rs_pass a R z x y (by omega) c (by omega)]
      obtain ⟨e, r⟩ := ih x y z hp.2 h1 h2
      exact ⟨congrArg (fun t => a :: t) e, r⟩
    · have c' : x < a := by omega
      by_cases d : a ≤ z
      · rw [rs_W3, rs_W3, rs_lt R c', rs_ge R d]
        show (rs_ins (rs_ins (x :: R) z).1 y).1 = (rs_ins (rs_ins (a :: (rs_ins R z).1) x).1 y).1 ∧
          kn_rel ((some a).toList ++ ((rs_ins (x :: R) z).2.toList ++ (rs_ins (rs_ins (x :: R) z).1 y).2.toList))
            ((rs_ins R z).2.toList ++ ((rs_ins (a :: (rs_ins R z).1) x).2.toList ++ (rs_ins (rs_ins (a :: (rs_ins R z).1) x).1 y).2.toList))
        rw [rs_ge R hxz, rs_lt _ c']
        show (rs_ins (x :: (rs_ins R z).1) y).1 = (rs_ins (x :: (rs_ins R z).1) y).1 ∧
          kn_rel ((some a).toList ++ ((rs_ins R z).2.toList ++ (rs_ins (x :: (rs_ins R z).1) y).2.toList))
            ((rs_ins R z).2.toList ++ ((some a).toList ++ (rs_ins (x :: (rs_ins R z).1) y).2.toList))
        rw [rs_ge _ h1]
        refine ⟨rfl, ?_⟩
        obtain ⟨b, hb, hbz, hbm⟩ := rs_out (rs_ins R z).1 y z (rs_srt R z hp.2) (rs_self R z) h2
        show kn_rel ((some a).toList ++ ((rs_ins R z).2.toList ++ (rs_ins (rs_ins R z).1 y).2.toList))
            ((rs_ins R z).2.toList ++ ((some a).toList ++ (rs_ins (rs_ins R z).1 y).2.toList))
        rw [hb]
        cases ho : (rs_ins R z).2 with
        | none => exact Or.inl rfl
        | some w =>
          have hw := rs_bump R z w ho
          have hab : a ≤ b := by
            rcases rs_mem R z b hbm with e | e
            · omega
            · exact hp.1 b e
          exact Or.inr ⟨a, b, w, Or.inl ⟨hab, by omega, Or.inl ⟨rfl, rfl⟩⟩⟩
      · have d' : z < a := by omega
        rw [rs_W3, rs_W3, rs_lt R c', rs_lt R d']
        show (rs_ins (rs_ins (x :: R) z).1 y).1 = (rs_ins (rs_ins (z :: R) x).1 y).1 ∧
          kn_rel ((some a).toList ++ ((rs_ins (x :: R) z).2.toList ++ (rs_ins (rs_ins (x :: R) z).1 y).2.toList))
            ((some a).toList ++ ((rs_ins (z :: R) x).2.toList ++ (rs_ins (rs_ins (z :: R) x).1 y).2.toList))
        rw [rs_ge R hxz, rs_lt R (show x < z by omega)]
        show (rs_ins (x :: (rs_ins R z).1) y).1 = (rs_ins (x :: R) y).1 ∧
          kn_rel ((some a).toList ++ ((rs_ins R z).2.toList ++ (rs_ins (x :: (rs_ins R z).1) y).2.toList))
            ((some a).toList ++ ((some z).toList ++ (rs_ins (x :: R) y).2.toList))
        rw [rs_ge _ h1, rs_ge _ h1]
        cases R with
        | nil =>
          rw [rs_nil, rs_nil]
          show x :: (rs_ins [z] y).1 = [x, y] ∧ kn_rel ((some a).toList ++ ((none : Option Nat).toList ++ (rs_ins [z] y).2.toList)) [a, z]
          rw [rs_lt [] h2]
          exact ⟨rfl, Or.inl rfl⟩
        | cons r R =>
          have hr : a ≤ r := hp.1 r List.mem_cons_self
          rw [rs_lt R (show z < r by omega), rs_lt R (show y < r by omega)]
          show x :: (rs_ins (z :: R) y).1 = x :: y :: R ∧ kn_rel ((some a).toList ++ ((some r).toList ++ (rs_ins (z :: R) y).2.toList)) [a, z, r]
          rw [rs_lt R h2]
          exact ⟨rfl, Or.inr ⟨z, a, r, Or.inr ⟨d', hr, Or.inr ⟨rfl, rfl⟩⟩⟩⟩
theorem rs_B : ∀ (R : List Nat) (x y z : Nat), rs_S R → x < y → y ≤ z →
    (rs_insW R [y, x, z]).1 = (rs_insW R [y, z, x]).1 ∧ kn_rel (rs_insW R [y, x, z]).2 (rs_insW R [y, z, x]).2 := by
  intro R
  induction R with
  | nil =>
    intro x y z _ h1 h2
    have hxz : x ≤ z := by omega
    rw [rs_W3, rs_W3]
    simp only [rs_nil, rs_lt [] h1, rs_ge [] h2]
    rw [rs_ge [] hxz, rs_lt [z] h1, rs_nil]
    exact ⟨rfl, Or.inl rfl⟩
  | cons a R ih =>
    intro x y z hs h1 h2
    have hp := List.pairwise_cons.mp hs
    have hxz : x ≤ z := by omega
    by_cases c : a ≤ x
    · rw [rs_pass a R y x z (by omega) c (by omega), rs_pass a R y z x (by omega) (by omega) c]
      obtain ⟨e, r⟩ := ih x y z hp.2 h1 h2
      exact ⟨congrArg (fun t => a :: t) e, r⟩
    · have c' : x < a := by omega
      by_cases d : a ≤ y
      · rw [rs_W3, rs_W3, rs_ge R d]
        show (rs_ins (rs_ins (a :: (rs_ins R y).1) x).1 z).1 = (rs_ins (rs_ins (a :: (rs_ins R y).1) z).1 x).1 ∧
          kn_rel ((rs_ins R y).2.toList ++ ((rs_ins (a :: (rs_ins R y).1) x).2.toList ++ (rs_ins (rs_ins (a :: (rs_ins R y).1) x).1 z).2.toList))
            ((rs_ins R y).2.toList ++ ((rs_ins (a :: (rs_ins R y).1) z).2.toList ++ (rs_ins (rs_ins (a :: (rs_ins R y).1) z).1 x).2.toList))
        rw [rs_lt _ c', rs_ge _ (show a ≤ z by omega)]
        show (rs_ins (x :: (rs_ins R y).1) z).1 = (rs_ins (a :: (rs_ins (rs_ins R y).1 z).1) x).1 ∧
          kn_rel ((rs_ins R y).2.toList ++ ((some a).toList ++ (rs_ins (x :: (rs_ins R y).1) z).2.toList))
            ((rs_ins R y).2.toList ++ ((rs_ins (rs_ins R y).1 z).2.toList ++ (rs_ins (a :: (rs_ins (rs_ins R y).1 z).1) x).2.toList))
        rw [rs_ge _ hxz, rs_lt _ c']
        refine ⟨rfl, ?_⟩
        show kn_rel ((rs_ins R y).2.toList ++ ((some a).toList ++ (rs_ins (rs_ins R y).1 z).2.toList))
            ((rs_ins R y).2.toList ++ ((rs_ins (rs_ins R y).1 z).2.toList ++ (some a).toList))
        have h3 := rs_two R y z hp.2 h2
        cases ho : (rs_ins (rs_ins R y).1 z).2 with
        | none => exact Or.inl rfl
        | some w =>
          cases hq : (rs_ins R y).2 with
          | none => rw [h3.1 hq] at ho; cases ho
          | some v =>
            have hv := rs_bump R y v hq
            have hvw := h3.2 v w hq ho
            exact Or.inr ⟨a, v, w, Or.inr ⟨by omega, hvw, Or.inl ⟨rfl, rfl⟩⟩⟩
      · have d' : y < a := by omega
        rw [rs_W3, rs_W3, rs_lt R d']
        show (rs_ins (rs_ins (y :: R) x).1 z).1 = (rs_ins (rs_ins (y :: R) z).1 x).1 ∧
          kn_rel ((some a).toList ++ ((rs_ins (y :: R) x).2.toList ++ (rs_ins (rs_ins (y :: R) x).1 z).2.toList))
            ((some a).toList ++ ((rs_ins (y :: R) z).2.toList ++ (rs_ins (rs_ins (y :: R) z).1 x).2.toList))
        rw [rs_lt R h1, rs_ge R h2]
        show (rs_ins (x :: R) z).1 = (rs_ins (y :: (rs_ins R z).1) x).1 ∧
          kn_rel ((some a).toList ++ ((some y).toList ++ (rs_ins (x :: R) z).2.toList))
            ((some a).toList ++ ((rs_ins R z).2.toList ++ (rs_ins (y :: (rs_ins R z).1) x).2.toList))
        rw [rs_ge R hxz, rs_lt _ h1]
        refine ⟨rfl, ?_⟩
        show kn_rel ((some a).toList ++ ((some y).toList ++ (rs_ins R z).2.toList))
            ((some a).toList ++ ((rs_ins R z).2.toList ++ (some y).toList))
        cases ho : (rs_ins R z).2 with
        | none => exact Or.inl rfl
        | some w =>
          have hw := hp.1 w (rs_bump R z w ho).2
          exact Or.inr ⟨y, a, w, Or.inr ⟨d', hw, Or.inl ⟨rfl, rfl⟩⟩⟩
theorem rs_K {R u v : List Nat} (hs : rs_S R) (h : kn_rel u v) : (rs_insW R u).1 = (rs_insW R v).1 ∧ kn_rel (rs_insW R u).2 (rs_insW R v).2 := by
  rcases h with h | ⟨x, y, z, h⟩
  · subst h; exact ⟨rfl, Or.inl rfl⟩
  · rcases h with ⟨a, b, c | c⟩ | ⟨a, b, c | c⟩
    · rw [c.1, c.2]; exact rs_A R x y z hs a b
    · rw [c.1, c.2]; exact ⟨(rs_A R x y z hs a b).1.symm, kn_rel_symm (rs_A R x y z hs a b).2⟩
    · rw [c.1, c.2]; exact rs_B R x y z hs a b
    · rw [c.1, c.2]; exact ⟨(rs_B R x y z hs a b).1.symm, kn_rel_symm (rs_B R x y z hs a b).2⟩
/-- a letter, or nothing, into the rows -/
def tb_put : List (List Nat) → Option Nat → List (List Nat)
  | [], _ => []
  | R :: T, none => R :: T
  | R :: T, some x => (rs_ins R x).1 :: tb_put T (rs_ins R x).2
theorem tb_put_none (T : List (List Nat)) : tb_put T none = T := by cases T <;> rfl
theorem tb_put_nil (o : Option Nat) : tb_put [] o = [] := by cases o <;> rfl
theorem tb_put_some (R : List Nat) (T : List (List Nat)) (x : Nat) : tb_put (R :: T) (some x) = (rs_ins R x).1 :: tb_put T (rs_ins R x).2 := rfl
def tb_P : List (List Nat) → List Nat → List (List Nat)
  | T, [] => T
  | T, x :: v => tb_P (tb_put T (some x)) v
theorem tb_P_app : ∀ (u v : List Nat) (T : List (List Nat)), tb_P T (u ++ v) = tb_P (tb_P T u) v := by
  intro u
  induction u with
  | nil => intro v T; rfl
  | cons x u ih => intro v T; exact ih v _
theorem tb_P_nil : ∀ v : List Nat, tb_P [] v = [] := by
  intro v
  induction v with
  | nil => rfl
  | cons x v ih => exact ih
theorem tb_P_opt (T : List (List Nat)) (o : Option Nat) : tb_P T o.toList = tb_put T o := by
  cases o with
  | none => exact (tb_put_none T).symm
  | some x => rfl
theorem tb_P_cons : ∀ (v R : List Nat) (T : List (List Nat)), tb_P (R :: T) v = (rs_insW R v).1 :: tb_P T (rs_insW R v).2 := by
  intro v
  induction v with
  | nil => intro R T; rfl
  | cons x v ih =>
    intro R T
    show tb_P (tb_put (R :: T) (some x)) v = _
    rw [tb_put_some, ih, rs_W1]
    show _ = _ :: tb_P T ((rs_ins R x).2.toList ++ (rs_insW (rs_ins R x).1 v).2)
    rw [tb_P_app, tb_P_opt]
def tb_S (T : List (List Nat)) : Prop := ∀ R, R ∈ T → rs_S R
theorem tb_S_put : ∀ (T : List (List Nat)) (o : Option Nat), tb_S T → tb_S (tb_put T o) := by
  intro T
  induction T with
  | nil => intro o h; rw [tb_put_nil]; exact h
  | cons R T ih =>
    intro o h
    cases o with
    | none => exact h
    | some x =>
      rw [tb_put_some]
      intro Q hQ
      rcases List.mem_cons.mp hQ with e | e
      · rw [e]; exact rs_srt R x (h R List.mem_cons_self)
      · exact ih _ (fun q hq => h q (List.mem_cons_of_mem _ hq)) Q e
theorem tb_S_P : ∀ (v : List Nat) (T : List (List Nat)), tb_S T → tb_S (tb_P T v) := by
  intro v
  induction v with
  | nil => intro T h; exact h
  | cons x v ih => intro T h; exact ih _ (tb_S_put T _ h)
theorem tb_K : ∀ (T : List (List Nat)) (u v : List Nat), tb_S T → kn_rel u v → tb_P T u = tb_P T v := by
  intro T
  induction T with
  | nil => intro u v _ _; rw [tb_P_nil, tb_P_nil]
  | cons R T ih =>
    intro u v hs h
    obtain ⟨e, r⟩ := rs_K (hs R List.mem_cons_self) h
    rw [tb_P_cons, tb_P_cons, e, ih _ _ (fun q hq => hs q (List.mem_cons_of_mem _ hq)) r]
def kn_step (w w' : List Nat) : Prop := ∃ a u v b : List Nat, kn_tri u v ∧ w = a ++ (u ++ b) ∧ w' = a ++ (v ++ b)
theorem kn_step_symm {w w' : List Nat} (h : kn_step w w') : kn_step w' w := by
  obtain ⟨a, u, v, b, h, e, e'⟩ := h
  exact ⟨a, v, u, b, kn_tri_symm h, e', e⟩
theorem tb_step {T : List (List Nat)} {w w' : List Nat} (hs : tb_S T) (h : kn_step w w') : tb_P T w = tb_P T w' := by
  obtain ⟨a, u, v, b, h, e, e'⟩ := h
  rw [e, e', tb_P_app, tb_P_app, tb_P_app, tb_P_app, tb_K _ u v (tb_S_P a T hs) (Or.inr h)]
end
section
/-! the least set of words that is closed under exchanges; reading words -/
def kn_cl (S : List Nat → Prop) : Prop := ∀ p q, S p → kn_step p q → S q
def kn_eq (w w' : List Nat) : Prop := ∀ S : List Nat → Prop, kn_cl S → S w → S w'
theorem kn_refl (w : List Nat) : kn_eq w w := fun _ _ h => h
theorem kn_trans {u v w : List Nat} (h : kn_eq u v) (g : kn_eq v w) : kn_eq u w := fun S c s => g S c (h S c s)
theorem kn_symm {u v : List Nat} (h : kn_eq u v) : kn_eq v u := by
  intro S c s
  exact h (fun t => S t → S u) (fun p q hp hpq hq => hp (c q p hq (kn_step_symm hpq))) (fun z => z) s
theorem kn_of {u v : List Nat} (h : kn_step u v) : kn_eq u v := fun _ c s => c u v s h
theorem kn_cong {u v : List Nat} (a b : List Nat) (h : kn_eq u v) : kn_eq (a ++ (u ++ b)) (a ++ (v ++ b)) := by
  intro S c s
  refine h (fun t => S (a ++ (t ++ b))) (fun p q hp hpq => ?_) s
  obtain ⟨a', u', v', b', ht, e, e'⟩ := hpq
  refine c _ _ hp ⟨a ++ a', u', v', b' ++ b, ht, ?_, ?_⟩
  · rw [e]; simp
  · rw [e']; simp
theorem kn_left {u v : List Nat} (a : List Nat) (h : kn_eq u v) : kn_eq (a ++ u) (a ++ v) := by
  have := kn_cong a [] h
  simpa using this
theorem kn_right {u v : List Nat} (b : List Nat) (h : kn_eq u v) : kn_eq (u ++ b) (v ++ b) := by
  have := kn_cong [] b h
  simpa using this
theorem kn_cons {u v : List Nat} (a : Nat) (h : kn_eq u v) : kn_eq (a :: u) (a :: v) := kn_left [a] h
/-- a letter behind a row whose head is greater moves to the place behind the head -/
theorem kn_slide : ∀ (R : List Nat) (a x : Nat), rs_S (a :: R) → x < a → kn_eq (a :: (R ++ [x])) (a :: x :: R) := by
  intro R
  induction R with
  | nil => intro a x _ _; exact kn_refl _
  | cons r R ih =>
    intro a x hs h
    have hp := List.pairwise_cons.mp hs
    have har : a ≤ r := hp.1 r List.mem_cons_self
    have h1 : kn_eq (a :: (r :: (R ++ [x]))) (a :: (r :: x :: R)) := kn_cons a (ih r x hp.2 (by omega))
    refine kn_trans h1 (kn_of ⟨[], [a, r, x], [a, x, r], R, ?_, rfl, rfl⟩)
    exact ⟨x, a, r, Or.inr ⟨h, har, Or.inr ⟨rfl, rfl⟩⟩⟩
/-- the head of a row that was pushed -/
theorem rs_head : ∀ (R : List Nat) (x b : Nat), rs_S R → (rs_ins R x).2 = some b → ∃ h Q, (rs_ins R x).1 = h :: Q ∧ h < b ∧ (h = x ∨ h ∈ R) := by
  intro R x b hs hb
  cases R with
  | nil => cases hb
  | cons a R =>
    by_cases c : x < a
    · rw [rs_lt R c] at hb ⊢
      cases hb
      exact ⟨x, R, rfl, c, Or.inl rfl⟩
    · rw [rs_ge R (by omega)] at hb ⊢
      have := rs_bump R x b hb
      exact ⟨a, _, rfl, by omega, Or.inr List.mem_cons_self⟩
theorem kn_row : ∀ (R : List Nat) (x b : Nat), rs_S R → (rs_ins R x).2 = some b → kn_eq (R ++ [x]) (b :: (rs_ins R x).1) := by
  intro R
  induction R with
  | nil => intro x b _ h; cases h
  | cons a R ih =>
    intro x b hs hb
    have hp := List.pairwise_cons.mp hs
    by_cases c : x < a
    · rw [rs_lt R c] at hb ⊢
      cases hb
      exact kn_slide R a x hs c
    · rw [rs_ge R (by omega)] at hb ⊢
      have hb' : (rs_ins R x).2 = some b := hb
      obtain ⟨h, Q, e, hlt, hm⟩ := rs_head R x b hp.2 hb'
      have hah : a ≤ h := by
        rcases hm with g | g
        · omega
        · exact hp.1 h g
      have h1 : kn_eq (a :: (R ++ [x])) (a :: (b :: (rs_ins R x).1)) := kn_cons a (ih x b hp.2 hb')
      refine kn_trans h1 ?_
      show kn_eq (a :: b :: (rs_ins R x).1) (b :: a :: (rs_ins R x).1)
      rw [e]
      exact kn_of ⟨[], [a, b, h], [b, a, h], Q, ⟨a, h, b, Or.inl ⟨hah, hlt, Or.inl ⟨rfl, rfl⟩⟩⟩, rfl, rfl⟩
def tb_rd : List (List Nat) → List Nat
  | [] => []
  | R :: T => tb_rd T ++ R
def tb_room : List (List Nat) → Prop
  | [] => False
  | R :: T => R = [] ∨ tb_room T
theorem tb_rd_put : ∀ (T : List (List Nat)) (x : Nat), tb_S T → tb_room T → kn_eq (tb_rd T ++ [x]) (tb_rd (tb_put T (some x))) := by
  intro T
  induction T with
  | nil => intro x _ h; exact h.elim
  | cons R T ih =>
    intro x hs hr
    have hS : rs_S R := hs R List.mem_cons_self
    have hT : tb_S T := fun q hq => hs q (List.mem_cons_of_mem _ hq)
    rw [tb_put_some]
    show kn_eq (tb_rd T ++ R ++ [x]) (tb_rd (tb_put T (rs_ins R x).2) ++ (rs_ins R x).1)
    cases ho : (rs_ins R x).2 with
    | none =>
      rw [tb_put_none, rs_none R x ho, List.append_assoc]
      exact kn_refl _
    | some b =>
      have hr' : tb_room T := by
        rcases hr with e | e
        · subst e; cases ho
        · exact e
      rw [List.append_assoc]
      refine kn_trans (kn_left (tb_rd T) (kn_row R x b hS ho)) ?_
      have := kn_right (rs_ins R x).1 (ih b hT hr')
      simpa using this
theorem tb_len_put : ∀ (T : List (List Nat)) (o : Option Nat), (tb_put T o).length = T.length := by
  intro T
  induction T with
  | nil => intro o; rw [tb_put_nil]
  | cons R T ih =>
    intro o
    cases o with
    | none => rfl
    | some x => rw [tb_put_some]; show (tb_put T _).length + 1 = _; rw [ih]; rfl
theorem tb_len_P : ∀ (v : List Nat) (T : List (List Nat)), (tb_P T v).length = T.length := by
  intro v
  induction v with
  | nil => intro T; rfl
  | cons x v ih => intro T; show (tb_P (tb_put T (some x)) v).length = _; rw [ih, tb_len_put]
theorem tb_sz_put : ∀ (T : List (List Nat)) (x : Nat), tb_room T → (tb_rd (tb_put T (some x))).length = (tb_rd T).length + 1 := by
  intro T
  induction T with
  | nil => intro x h; exact h.elim
  | cons R T ih =>
    intro x hr
    rw [tb_put_some]
    show (tb_rd (tb_put T (rs_ins R x).2) ++ (rs_ins R x).1).length = (tb_rd T ++ R).length + 1
    rw [List.length_append, List.length_append]
    cases ho : (rs_ins R x).2 with
    | none => rw [tb_put_none, rs_none R x ho, List.length_append]; simp; omega
    | some b =>
      have hr' : tb_room T := by
        rcases hr with e | e
        · subst e; cases ho
        · exact e
      rw [ih b hr', rs_some R x b ho]; omega
theorem tb_room_of : ∀ T : List (List Nat), (tb_rd T).length < T.length → tb_room T := by
  intro T
  induction T with
  | nil => intro h; exact absurd h (Nat.not_lt_zero _)
  | cons R T ih =>
    intro h
    have h' : (tb_rd T ++ R).length < T.length + 1 := h
    rw [List.length_append] at h'
    cases R with
    | nil => exact Or.inl rfl
    | cons a R => exact Or.inr (ih (by simp at h'; omega))
def tb_0 : List (List Nat) := List.replicate 7 []
/-- the rows of a word -/
def tb_W (w : List Nat) : List (List Nat) := tb_P tb_0 w
theorem tb_S_0 : tb_S tb_0 := by
  intro R h
  have : R = [] := List.eq_of_mem_replicate h
  rw [this]; exact List.Pairwise.nil
theorem tb_W_S (w : List Nat) : tb_S (tb_W w) := tb_S_P w tb_0 tb_S_0
theorem tb_W_len (w : List Nat) : (tb_W w).length = 7 := tb_len_P w tb_0
theorem tb_W_snoc (w : List Nat) (x : Nat) : tb_W (w ++ [x]) = tb_put (tb_W w) (some x) := tb_P_app w [x] tb_0
theorem tb_W_nil : tb_W [] = tb_0 := rfl
/-- induction from behind -/
theorem ls_snoc {P : List Nat → Prop} (h0 : P []) (hs : ∀ w x, P w → P (w ++ [x])) (w : List Nat) : P w := by
  have : ∀ v : List Nat, P v.reverse := by
    intro v
    induction v with
    | nil => exact h0
    | cons x v ih => rw [List.reverse_cons]; exact hs _ _ ih
  have h := this w.reverse
  rwa [List.reverse_reverse] at h
theorem tb_W_rd (w : List Nat) : w.length ≤ 7 → (tb_rd (tb_W w)).length = w.length ∧ kn_eq w (tb_rd (tb_W w)) := by
  induction w using ls_snoc with
  | h0 => intro _; exact ⟨rfl, kn_refl _⟩
  | hs w x ih =>
    intro h
    rw [List.length_append] at h
    have h' : w.length + 1 ≤ 7 := h
    obtain ⟨e, k⟩ := ih (by omega)
    have hr : tb_room (tb_W w) := tb_room_of _ (by rw [e, tb_W_len]; omega)
    rw [tb_W_snoc, List.length_append]
    exact ⟨by rw [tb_sz_put _ _ hr, e]; rfl, kn_trans (kn_right [x] k) (tb_rd_put _ x (tb_W_S w) hr)⟩
theorem tb_W_room {w : List Nat} (h : w.length < 7) : tb_room (tb_W w) :=
  tb_room_of _ (by rw [(tb_W_rd w (by omega)).1, tb_W_len]; omega)
theorem tb_W_eq {w w' : List Nat} (h : kn_eq w w') : tb_W w = tb_W w' := by
  refine h (fun t => tb_W w = tb_W t) (fun p q hp hpq => ?_) rfl
  exact hp.trans (tb_step tb_S_0 hpq)
theorem tb_W_kn {w w' : List Nat} (h : w.length ≤ 7) (h' : w'.length ≤ 7) (e : tb_W w = tb_W w') : kn_eq w w' := by
  have k := (tb_W_rd w h).2
  rw [e] at k
  exact kn_trans k (kn_symm (tb_W_rd w' h').2)
theorem kn_tri_perm {u v : List Nat} (h : kn_tri u v) : v.Perm u := by
  obtain ⟨x, y, z, h⟩ := h
  rcases h with ⟨_, _, c | c⟩ | ⟨_, _, c | c⟩
  · rw [c.1, c.2]; exact List.Perm.swap _ _ _
  · rw [c.1, c.2]; exact List.Perm.swap _ _ _
  · rw [c.1, c.2]; exact List.Perm.cons _ (List.Perm.swap _ _ _)
  · rw [c.1, c.2]; exact List.Perm.cons _ (List.Perm.swap _ _ _)
theorem kn_step_perm {w w' : List Nat} (h : kn_step w w') : w'.Perm w := by
  obtain ⟨a, u, v, b, h, e, e'⟩ := h
  rw [e, e']
  exact List.Perm.append_left a (List.Perm.append_right b (kn_tri_perm h))
theorem kn_perm {w w' : List Nat} (h : kn_eq w w') : w'.Perm w :=
  h (fun t => t.Perm w) (fun _ _ hp hpq => (kn_step_perm hpq).trans hp) (List.Perm.refl _)
end
section
/-! insertion undone -/
def rs_un : List Nat → Nat → List Nat × Nat
  | [], y => ([], y)
  | a :: R, y => if R.headD y < y then (a :: (rs_un R y).1, (rs_un R y).2) else (y :: R, a)
theorem rs_un_on {a y : Nat} {R : List Nat} (h : R.headD y < y) : rs_un (a :: R) y = (a :: (rs_un R y).1, (rs_un R y).2) := by
  rw [rs_un, if_pos h]
theorem rs_un_at {a y : Nat} {R : List Nat} (h : ¬ R.headD y < y) : rs_un (a :: R) y = (y :: R, a) := by
  rw [rs_un, if_neg h]
theorem rs_un_len : ∀ (R : List Nat) (y : Nat), (rs_un R y).1.length = R.length := by
  intro R
  induction R with
  | nil => intro y; rfl
  | cons a R ih =>
    intro y
    by_cases c : R.headD y < y
    · rw [rs_un_on c]; show (rs_un R y).1.length + 1 = _; rw [ih]; rfl
    · rw [rs_un_at c]; rfl
theorem rs_un_mem : ∀ (R : List Nat) (y z : Nat), z ∈ (rs_un R y).1 → z = y ∨ z ∈ R := by
  intro R
  induction R with
  | nil => intro y z h; cases h
  | cons a R ih =>
    intro y z h
    by_cases c : R.headD y < y
    · rw [rs_un_on c] at h
      rcases List.mem_cons.mp h with e | e
      · exact Or.inr (List.mem_cons.mpr (Or.inl e))
      · rcases ih y z e with e | e
        · exact Or.inl e
        · exact Or.inr (List.mem_cons_of_mem _ e)
    · rw [rs_un_at c] at h
      rcases List.mem_cons.mp h with e | e
      · exact Or.inl e
      · exact Or.inr (List.mem_cons_of_mem _ e)
theorem rs_un_out : ∀ (R : List Nat) (y : Nat), R ≠ [] → (rs_un R y).2 ∈ R := by
  intro R
  induction R with
  | nil => intro y h; exact absurd rfl h
  | cons a R ih =>
    intro y _
    by_cases c : R.headD y < y
    · rw [rs_un_on c]
      refine List.mem_cons_of_mem _ (ih y ?_)
      intro e; subst e; exact absurd c (Nat.lt_irrefl _)
    · rw [rs_un_at c]; exact List.mem_cons_self
theorem rs_un_ins : ∀ (R : List Nat) (x b : Nat), rs_S R → (rs_ins R x).2 = some b → rs_un (rs_ins R x).1 b = (R, x) := by
  intro R
  induction R with
  | nil => intro x b _ h; cases h
  | cons a R ih =>
    intro x b hs hb
    have hp := List.pairwise_cons.mp hs
    by_cases c : x < a
    · rw [rs_lt R c] at hb ⊢
      cases hb
      show rs_un (x :: R) a = _
      refine rs_un_at ?_
      cases R with
      | nil => exact Nat.lt_irrefl _
      | cons r R => have := hp.1 r List.mem_cons_self; show ¬ r < a; omega
    · rw [rs_ge R (by omega)] at hb ⊢
      have hb' : (rs_ins R x).2 = some b := hb
      obtain ⟨h, Q, e, hlt, _⟩ := rs_head R x b hp.2 hb'
      show rs_un (a :: (rs_ins R x).1) b = _
      rw [rs_un_on (by rw [e]; exact hlt), ih x b hp.2 hb']
theorem rs_ins_un : ∀ (R : List Nat) (a y : Nat), rs_S (a :: R) → a < y → rs_ins (rs_un (a :: R) y).1 (rs_un (a :: R) y).2 = (a :: R, some y) := by
  intro R
  induction R with
  | nil =>
    intro a y _ h
    rw [rs_un_at (Nat.lt_irrefl _)]
    exact rs_lt [] h
  | cons r R ih =>
    intro a y hs h
    have hp := List.pairwise_cons.mp hs
    by_cases c : r < y
    · rw [rs_un_on (show (r :: R).headD y < y from c)]
      show rs_ins (a :: (rs_un (r :: R) y).1) (rs_un (r :: R) y).2 = _
      rw [rs_ge _ (hp.1 _ (rs_un_out (r :: R) y (by simp))), ih r y hp.2 c]
    · rw [rs_un_at (show ¬ (r :: R).headD y < y from c)]
      exact rs_lt _ h
theorem rs_un_srt : ∀ (R : List Nat) (a y : Nat), rs_S (a :: R) → a < y → rs_S (rs_un (a :: R) y).1 := by
  intro R
  induction R with
  | nil =>
    intro a y _ h
    rw [rs_un_at (Nat.lt_irrefl _)]
    exact List.pairwise_singleton _ _
  | cons r R ih =>
    intro a y hs h
    have hp := List.pairwise_cons.mp hs
    by_cases c : r < y
    · rw [rs_un_on (show (r :: R).headD y < y from c)]
      refine List.pairwise_cons.mpr ⟨fun b hb => ?_, ih r y hp.2 c⟩
      rcases rs_un_mem _ y b hb with e | e
      · omega
      · exact hp.1 b e
    · rw [rs_un_at (show ¬ (r :: R).headD y < y from c)]
      refine List.pairwise_cons.mpr ⟨fun b hb => ?_, hp.2⟩
      have h2 := List.pairwise_cons.mp hp.2
      rcases List.mem_cons.mp hb with e | e
      · omega
      · have := h2.1 b e; omega
/-- each entry of the lower row is above the entry over it -/
def tb_dom : List Nat → List Nat → Prop
  | _, [] => True
  | [], _ :: _ => False
  | a :: R, b :: S => a < b ∧ tb_dom R S
theorem tb_dom_nil (R : List Nat) : tb_dom R [] := by cases R <;> trivial
theorem tb_dom_len : ∀ (R S : List Nat), tb_dom R S → S.length ≤ R.length := by
  intro R
  induction R with
  | nil => intro S h; cases S with
    | nil => exact Nat.le_refl _
    | cons s S => exact h.elim
  | cons a R ih => intro S h; cases S with
    | nil => exact Nat.zero_le _
    | cons s S => exact Nat.succ_le_succ (ih S h.2)
theorem tb_dom_app : ∀ (R S : List Nat) (x : Nat), tb_dom R S → tb_dom (R ++ [x]) S := by
  intro R
  induction R with
  | nil => intro S x h; cases S with
    | nil => exact tb_dom_nil _
    | cons s S => exact h.elim
  | cons a R ih => intro S x h; cases S with
    | nil => exact tb_dom_nil _
    | cons s S => exact ⟨h.1, ih S x h.2⟩
theorem tb_dom_le : ∀ (R S : List Nat) (x : Nat), tb_dom R S → tb_dom (rs_ins R x).1 S := by
  intro R
  induction R with
  | nil => intro S x h; cases S with
    | nil => exact tb_dom_nil _
    | cons s S => exact h.elim
  | cons a R ih => intro S x h; cases S with
    | nil => exact tb_dom_nil _
    | cons s S =>
      have h' : a < s ∧ tb_dom R S := h
      by_cases c : x < a
      · rw [rs_lt R c]; exact ⟨by omega, h'.2⟩
      · rw [rs_ge R (by omega)]; exact ⟨h'.1, ih S x h'.2⟩
theorem tb_dom_ins : ∀ (R S : List Nat) (x b : Nat), rs_S R → tb_dom R S → (rs_ins R x).2 = some b → tb_dom (rs_ins R x).1 (rs_ins S b).1 := by
  intro R
  induction R with
  | nil => intro S x b _ _ h; cases h
  | cons a R ih =>
    intro S x b hs hd hb
    have hp := List.pairwise_cons.mp hs
    by_cases c : x < a
    · rw [rs_lt R c] at hb ⊢
      cases hb
      cases S with
      | nil => exact ⟨c, tb_dom_nil _⟩
      | cons s S =>
        have h' : a < s ∧ tb_dom R S := hd
        rw [rs_lt S h'.1]
        exact ⟨c, h'.2⟩
    · rw [rs_ge R (by omega)] at hb ⊢
      have hb' : (rs_ins R x).2 = some b := hb
      have hxb := (rs_bump R x b hb').1
      cases S with
      | nil => exact ⟨by omega, tb_dom_nil _⟩
      | cons s S =>
        have h' : a < s ∧ tb_dom R S := hd
        by_cases d : b < s
        · rw [rs_lt S d]
          exact ⟨by omega, tb_dom_le R S x h'.2⟩
        · rw [rs_ge S (by omega)]
          exact ⟨h'.1, ih S x b hp.2 h'.2 hb'⟩
theorem tb_dom_big : ∀ (R S : List Nat) (y : Nat), tb_dom R S → (∀ t, t ∈ S → y < t) → tb_dom (rs_un R y).1 S := by
  intro R
  induction R with
  | nil => intro S y h _; exact h
  | cons a R ih => intro S y h hb; cases S with
    | nil => exact tb_dom_nil _
    | cons s S =>
      have h' : a < s ∧ tb_dom R S := h
      by_cases c : R.headD y < y
      · rw [rs_un_on c]
        exact ⟨h'.1, ih S y h'.2 (fun t ht => hb t (List.mem_cons_of_mem _ ht))⟩
      · rw [rs_un_at c]
        exact ⟨hb s List.mem_cons_self, h'.2⟩
theorem tb_dom_last : ∀ (S R : List Nat), rs_S S → tb_dom R S → tb_dom (rs_un R (S.getLastD 0)).1 S.dropLast := by
  intro S
  induction S with
  | nil => intro R _ h; exact tb_dom_nil _
  | cons s S ih =>
    intro R hs h
    cases S with
    | nil => exact tb_dom_nil _
    | cons s' S =>
      have hp := List.pairwise_cons.mp hs
      cases R with
      | nil => exact h.elim
      | cons a R =>
        have h' : a < s ∧ tb_dom R (s' :: S) := h
        cases R with
        | nil => exact h'.2.elim
        | cons r R =>
          have h2 : r < s' ∧ tb_dom R S := h'.2
          have hm : (s' :: S).getLastD 0 ∈ s' :: S := by
            rw [List.getLastD_eq_getLast?, List.getLast?_eq_some_getLast (by simp : s' :: S ≠ [])]
            exact List.getLast_mem _
          have hle : s' ≤ (s' :: S).getLastD 0 := by
            rcases List.mem_cons.mp hm with e | e
            · omega
            · exact (List.pairwise_cons.mp hp.2).1 _ e
          show tb_dom (rs_un (a :: r :: R) ((s' :: S).getLastD 0)).1 (s :: (s' :: S).dropLast)
          rw [rs_un_on (show (r :: R).headD _ < _ from Nat.lt_of_lt_of_le h2.1 hle)]
          exact ⟨h'.1, ih (r :: R) hp.2 h'.2⟩
theorem tb_dom_un : ∀ (S R : List Nat) (s z : Nat), rs_S (s :: S) → s < z → tb_dom R (s :: S) → tb_dom (rs_un R (rs_un (s :: S) z).2).1 (rs_un (s :: S) z).1 := by
  intro S
  induction S with
  | nil =>
    intro R s z _ h hd
    rw [rs_un_at (Nat.lt_irrefl _)]
    cases R with
    | nil => exact hd.elim
    | cons a R =>
      have h' : a < s ∧ tb_dom R [] := hd
      show tb_dom (rs_un (a :: R) s).1 [z]
      by_cases c : R.headD s < s
      · rw [rs_un_on c]; exact ⟨by omega, tb_dom_nil _⟩
      · rw [rs_un_at c]; exact ⟨h, tb_dom_nil _⟩
  | cons s' S ih =>
    intro R s z hs h hd
    have hp := List.pairwise_cons.mp hs
    cases R with
    | nil => exact hd.elim
    | cons a R =>
      have h' : a < s ∧ tb_dom R (s' :: S) := hd
      by_cases c : s' < z
      · rw [rs_un_on (show (s' :: S).headD z < z from c)]
        have hm := rs_un_out (s' :: S) z (by simp)
        have hle : s' ≤ (rs_un (s' :: S) z).2 := by
          rcases List.mem_cons.mp hm with e | e
          · omega
          · exact (List.pairwise_cons.mp hp.2).1 _ e
        cases R with
        | nil => exact h'.2.elim
        | cons r R =>
          have h2 : r < s' ∧ tb_dom R S := h'.2
          show tb_dom (rs_un (a :: r :: R) (rs_un (s' :: S) z).2).1 (s :: (rs_un (s' :: S) z).1)
          rw [rs_un_on (show (r :: R).headD _ < _ from Nat.lt_of_lt_of_le h2.1 hle)]
          exact ⟨h'.1, ih (r :: R) s' z hp.2 c h'.2⟩
      · rw [rs_un_at (show ¬ (s' :: S).headD z < z from c)]
        show tb_dom (rs_un (a :: R) s).1 (z :: s' :: S)
        have hbig : ∀ t, t ∈ s' :: S → s < t := by
          intro t ht
          rcases List.mem_cons.mp ht with e | e
          · omega
          · have := (List.pairwise_cons.mp hp.2).1 t e; omega
        by_cases d : R.headD s < s
        · rw [rs_un_on d]; exact ⟨by omega, tb_dom_big R _ s h'.2 hbig⟩
        · rw [rs_un_at d]; exact ⟨h, h'.2⟩
def tb_V : List (List Nat) → Prop
  | [] => True
  | R :: T => rs_S R ∧ tb_dom R (T.headD []) ∧ tb_V T
theorem tb_V_S : ∀ T : List (List Nat), tb_V T → tb_S T := by
  intro T
  induction T with
  | nil => intro _ R h; cases h
  | cons R T ih =>
    intro h Q hQ
    rcases List.mem_cons.mp hQ with e | e
    · rw [e]; exact h.1
    · exact ih h.2.2 Q e
theorem tb_V_put : ∀ (T : List (List Nat)) (o : Option Nat), tb_V T → tb_V (tb_put T o) := by
  intro T
  induction T with
  | nil => intro o h; rw [tb_put_nil]; exact h
  | cons R T ih =>
    intro o h
    have h' : rs_S R ∧ tb_dom R (T.headD []) ∧ tb_V T := h
    cases o with
    | none => exact h
    | some x =>
      rw [tb_put_some]
      refine ⟨rs_srt R x h'.1, ?_, ih _ h'.2.2⟩
      cases ho : (rs_ins R x).2 with
      | none => rw [tb_put_none, rs_none R x ho]; exact tb_dom_app _ _ _ h'.2.1
      | some b =>
        cases T with
        | nil => exact tb_dom_nil _
        | cons Q T => exact tb_dom_ins R Q x b h'.1 h'.2.1 ho
theorem tb_V_P : ∀ (v : List Nat) (T : List (List Nat)), tb_V T → tb_V (tb_P T v) := by
  intro v
  induction v with
  | nil => intro T h; exact h
  | cons x v ih => intro T h; exact ih _ (tb_V_put T _ h)
theorem tb_V_0 : tb_V tb_0 := by
  have e : ∀ n, tb_V (List.replicate n []) := by
    intro n
    induction n with
    | zero => trivial
    | succ n ih =>
      rw [List.replicate_succ]
      refine ⟨List.Pairwise.nil, ?_, ih⟩
      cases n with
      | zero => trivial
      | succ n => rw [List.replicate_succ]; trivial
  exact e 7
theorem tb_W_V (w : List Nat) : tb_V (tb_W w) := tb_V_P w tb_0 tb_V_0
/-- shapes: lists of lengths -/
def sh_cor : List Nat → Nat → Bool
  | [], _ => false
  | a :: l, 0 => decide (l.headD 0 < a)
  | _ :: l, r + 1 => sh_cor l r
def sh_dec : List Nat → Nat → List Nat
  | [], _ => []
  | a :: l, 0 => (a - 1) :: l
  | a :: l, r + 1 => a :: sh_dec l r
def tb_sh (T : List (List Nat)) : List Nat := T.map List.length
theorem tb_sh_cons (R : List Nat) (T : List (List Nat)) : tb_sh (R :: T) = R.length :: tb_sh T := rfl
theorem tb_sh_head (T : List (List Nat)) : (tb_sh T).headD 0 = (T.headD []).length := by cases T <;> rfl
def tb_un : List (List Nat) → Nat → List (List Nat) × Nat
  | [], _ => ([], 0)
  | R :: T, 0 => (R.dropLast :: T, R.getLastD 0)
  | R :: T, r + 1 => ((rs_un R (tb_un T r).2).1 :: (tb_un T r).1, (rs_un R (tb_un T r).2).2)
theorem tb_un_0 (R : List Nat) (T : List (List Nat)) : tb_un (R :: T) 0 = (R.dropLast :: T, R.getLastD 0) := rfl
theorem tb_un_1 (R : List Nat) (T : List (List Nat)) (r : Nat) : tb_un (R :: T) (r + 1) = ((rs_un R (tb_un T r).2).1 :: (tb_un T r).1, (rs_un R (tb_un T r).2).2) := rfl
def tb_row : List (List Nat) → Nat → Nat
  | [], _ => 0
  | R :: T, x => match (rs_ins R x).2 with
    | none => 0
    | some b => tb_row T b + 1
theorem tb_row_n {R : List Nat} {T : List (List Nat)} {x : Nat} (h : (rs_ins R x).2 = none) : tb_row (R :: T) x = 0 := by
  rw [tb_row, h]
theorem tb_row_s {R : List Nat} {T : List (List Nat)} {x b : Nat} (h : (rs_ins R x).2 = some b) : tb_row (R :: T) x = tb_row T b + 1 := by
  rw [tb_row, h]
theorem tb_un_put : ∀ (T : List (List Nat)) (x : Nat), tb_S T → tb_room T → tb_un (tb_put T (some x)) (tb_row T x) = (T, x) := by
  intro T
  induction T with
  | nil => intro x _ h; exact h.elim
  | cons R T ih =>
    intro x hs hr
    rw [tb_put_some]
    cases ho : (rs_ins R x).2 with
    | none =>
      rw [tb_row_n ho, tb_put_none, rs_none R x ho, tb_un_0, List.dropLast_concat]
      congr 1
      rw [List.getLastD_eq_getLast?, List.getLast?_concat]; rfl
    | some b =>
      have hr' : tb_room T := by
        rcases hr with e | e
        · subst e; cases ho
        · exact e
      rw [tb_row_s ho, tb_un_1, ih b (fun q hq => hs q (List.mem_cons_of_mem _ hq)) hr']
      show ((rs_un (rs_ins R x).1 b).1 :: T, (rs_un (rs_ins R x).1 b).2) = _
      rw [rs_un_ins R x b (hs R List.mem_cons_self) ho]
theorem tb_cor_put : ∀ (T : List (List Nat)) (x : Nat), tb_V T → tb_room T → sh_cor (tb_sh (tb_put T (some x))) (tb_row T x) = true ∧ tb_row T x < T.length := by
  intro T
  induction T with
  | nil => intro x _ h; exact h.elim
  | cons R T ih =>
    intro x hs hr
    have h' : rs_S R ∧ tb_dom R (T.headD []) ∧ tb_V T := hs
    rw [tb_put_some]
    cases ho : (rs_ins R x).2 with
    | none =>
      rw [tb_row_n ho, tb_put_none, rs_none R x ho, tb_sh_cons]
      have := tb_dom_len _ _ h'.2.1
      refine ⟨decide_eq_true ?_, Nat.succ_pos _⟩
      rw [tb_sh_head, List.length_append]
      exact Nat.lt_succ_of_le this
    | some b =>
      have hr' : tb_room T := by
        rcases hr with e | e
        · subst e; cases ho
        · exact e
      rw [tb_row_s ho, tb_sh_cons]
      exact ⟨(ih b h'.2.2 hr').1, Nat.succ_lt_succ (ih b h'.2.2 hr').2⟩
theorem tb_un_len : ∀ (T : List (List Nat)) (r : Nat), (tb_un T r).1.length = T.length := by
  intro T
  induction T with
  | nil => intro r; cases r <;> rfl
  | cons R T ih =>
    intro r
    cases r with
    | zero => rfl
    | succ r => rw [tb_un_1]; show (tb_un T r).1.length + 1 = _; rw [ih]; rfl
theorem tb_un_sh : ∀ (T : List (List Nat)) (r : Nat), tb_sh (tb_un T r).1 = sh_dec (tb_sh T) r := by
  intro T
  induction T with
  | nil => intro r; cases r <;> rfl
  | cons R T ih =>
    intro r
    cases r with
    | zero => rw [tb_un_0, tb_sh_cons, tb_sh_cons, List.length_dropLast]; rfl
    | succ r =>
      rw [tb_un_1, tb_sh_cons, tb_sh_cons, rs_un_len, ih]; rfl
/-- rows above stay in order when a corner is taken off below -/
theorem tb_put_un : ∀ (T : List (List Nat)) (r : Nat), tb_V T → sh_cor (tb_sh T) r = true →
    tb_V (tb_un T r).1 ∧ tb_put (tb_un T r).1 (some (tb_un T r).2) = T ∧ tb_row (tb_un T r).1 (tb_un T r).2 = r ∧
    (tb_un T r).2 ∈ T.headD [] ∧ (∀ R, rs_S R → tb_dom R (T.headD []) → tb_dom (rs_un R (tb_un T r).2).1 ((tb_un T r).1.headD [])) := by
  intro T
  induction T with
  | nil => intro r _ h; cases r <;> cases h
  | cons S T ih =>
    intro r hV hc
    have h' : rs_S S ∧ tb_dom S (T.headD []) ∧ tb_V T := hV
    cases r with
    | zero =>
      have hc' : (tb_sh T).headD 0 < S.length := of_decide_eq_true hc
      rw [tb_sh_head] at hc'
      have hne : S ≠ [] := by intro e; subst e; exact absurd hc' (Nat.not_lt_zero _)
      have hdl : S.dropLast ++ [S.getLastD 0] = S := by
        rw [List.getLastD_eq_getLast?, List.getLast?_eq_some_getLast hne]
        exact List.dropLast_concat_getLast hne
      have hmem : S.getLastD 0 ∈ S := by
        rw [List.getLastD_eq_getLast?, List.getLast?_eq_some_getLast hne]
        exact List.getLast_mem hne
      have hS2 : rs_S (S.dropLast ++ [S.getLastD 0]) := by rw [hdl]; exact h'.1
      have hno : (rs_ins S.dropLast (S.getLastD 0)).2 = none := by
        cases ho : (rs_ins S.dropLast (S.getLastD 0)).2 with
        | none => rfl
        | some b =>
          have hb := rs_bump _ _ _ ho
          have := (List.pairwise_append.mp hS2).2.2 b hb.2 (S.getLastD 0) List.mem_cons_self
          omega
      rw [tb_un_0]
      refine ⟨⟨(List.pairwise_append.mp hS2).1, ?_, h'.2.2⟩, ?_, tb_row_n hno, hmem, fun R hR hd => tb_dom_last S R h'.1 hd⟩
      · have key : ∀ (A B : List Nat), tb_dom A B → B.length < A.length → tb_dom A.dropLast B := by
          intro A
          induction A with
          | nil => intro B _ h; exact absurd h (Nat.not_lt_zero _)
          | cons a A ihA =>
            intro B hd hl
            cases B with
            | nil => exact tb_dom_nil _
            | cons b B =>
              have hd' : a < b ∧ tb_dom A B := hd
              have hl' : B.length < A.length := Nat.lt_of_succ_lt_succ hl
              cases A with
              | nil => exact absurd hl' (Nat.not_lt_zero _)
              | cons a' A => exact ⟨hd'.1, ihA B hd'.2 hl'⟩
        exact key S _ h'.2.1 hc'
      · rw [tb_put_some, hno, tb_put_none, rs_none _ _ hno, hdl]
    | succ r =>
      have hc' : sh_cor (tb_sh T) r = true := hc
      obtain ⟨i1, i2, i3, i4, i5⟩ := ih r h'.2.2 hc'
      have hx : ∃ s S0, S = s :: S0 ∧ s < (tb_un T r).2 := by
        cases T with
        | nil => cases r <;> cases hc'
        | cons Q T =>
          have i4' : (tb_un (Q :: T) r).2 ∈ Q := i4
          have hdQ : tb_dom S Q := h'.2.1
          cases Q with
          | nil => cases i4'
          | cons q Q =>
            cases S with
            | nil => exact hdQ.elim
            | cons s S =>
              have hd' : s < q ∧ tb_dom S Q := hdQ
              refine ⟨s, S, rfl, ?_⟩
              have hQ : rs_S (q :: Q) := h'.2.2.1
              rcases List.mem_cons.mp i4' with e | e
              · omega
              · have := (List.pairwise_cons.mp hQ).1 _ e; omega
      obtain ⟨s, S0, eS, hs⟩ := hx
      have hSS : rs_S (s :: S0) := by rw [← eS]; exact h'.1
      have hiu := rs_ins_un S0 s _ hSS hs
      have hus := rs_un_srt S0 s _ hSS hs
      rw [← eS] at hiu hus
      rw [tb_un_1]
      refine ⟨⟨hus, i5 S h'.1 h'.2.1, i1⟩, ?_, ?_, rs_un_out S _ (by rw [eS]; simp), ?_⟩
      · show tb_put ((rs_un S (tb_un T r).2).1 :: (tb_un T r).1) (some (rs_un S (tb_un T r).2).2) = _
        rw [tb_put_some, hiu]
        show S :: tb_put (tb_un T r).1 (some (tb_un T r).2) = _
        rw [i2]
      · have ho : (rs_ins (rs_un S (tb_un T r).2).1 (rs_un S (tb_un T r).2).2).2 = some (tb_un T r).2 := by rw [hiu]
        exact (tb_row_s ho).trans (congrArg (fun t => t + 1) i3)
      · intro R hR hd
        have hd' : tb_dom R (s :: S0) := by rw [← eS]; exact hd
        have := tb_dom_un S0 R s (tb_un T r).2 hSS hs hd'
        rw [← eS] at this
        exact this
end
section
/-! all words with given rows; how many; shapes of at most seven cells -/
/-- the words whose last letter comes out of row r -/
def tb_E1 (E : List (List Nat) → List (List Nat)) (T : List (List Nat)) (r : Nat) : List (List Nat) :=
  if sh_cor (tb_sh T) r = true then (E (tb_un T r).1).map (fun w => w ++ [(tb_un T r).2]) else []
def tb_E : Nat → List (List Nat) → List (List Nat)
  | 0, _ => [[]]
  | n + 1, T => (List.range' 0 7).flatMap (tb_E1 (tb_E n) T)
theorem tb_E_succ (n : Nat) (T : List (List Nat)) : tb_E (n + 1) T = (List.range' 0 7).flatMap (tb_E1 (tb_E n) T) := rfl
theorem tb_un_sz : ∀ (T : List (List Nat)) (r : Nat), sh_cor (tb_sh T) r = true → (tb_rd (tb_un T r).1).length + 1 = (tb_rd T).length := by
  intro T
  induction T with
  | nil => intro r h; cases r <;> cases h
  | cons R T ih =>
    intro r h
    cases r with
    | zero =>
      have hc : (tb_sh T).headD 0 < R.length := of_decide_eq_true h
      rw [tb_un_0]
      show (tb_rd T ++ R.dropLast).length + 1 = (tb_rd T ++ R).length
      rw [List.length_append, List.length_append, List.length_dropLast]; omega
    | succ r =>
      have := ih r h
      rw [tb_un_1]
      show (tb_rd (tb_un T r).1 ++ (rs_un R (tb_un T r).2).1).length + 1 = (tb_rd T ++ R).length
      rw [List.length_append, List.length_append, rs_un_len]; omega
theorem tb_rd_0 : ∀ T : List (List Nat), (tb_rd T).length = 0 → T = List.replicate T.length [] := by
  intro T
  induction T with
  | nil => intro _; rfl
  | cons R T ih =>
    intro h
    have h' : (tb_rd T ++ R).length = 0 := h
    rw [List.length_append] at h'
    have hR : R = [] := List.eq_nil_of_length_eq_zero (by omega)
    show R :: T = List.replicate (T.length + 1) []
    rw [List.replicate_succ, ← ih (by omega), hR]
theorem ls_split {w : List Nat} {n : Nat} (h : w.length = n + 1) : ∃ v x, w = v ++ [x] ∧ v.length = n := by
  have hne : w ≠ [] := by intro e; subst e; cases h
  refine ⟨w.dropLast, w.getLast hne, (List.dropLast_concat_getLast hne).symm, ?_⟩
  rw [List.length_dropLast, h]; rfl
theorem tb_E_mem : ∀ (n : Nat) (T : List (List Nat)) (w : List Nat), tb_V T → T.length = 7 → (tb_rd T).length = n → n ≤ 7 → (w ∈ tb_E n T ↔ tb_W w = T ∧ w.length = n) := by
  intro n
  induction n with
  | zero =>
    intro T w hV h7 hn _
    have hT : T = tb_0 := by rw [tb_rd_0 T hn, h7]; rfl
    show w ∈ [[]] ↔ _
    rw [List.mem_singleton]
    constructor
    · intro e; subst e; exact ⟨hT.symm, rfl⟩
    · intro e; exact List.eq_nil_of_length_eq_zero e.2
  | succ n ih =>
    intro T w hV h7 hn hle
    rw [tb_E_succ, List.mem_flatMap]
    constructor
    · rintro ⟨r, _, hw⟩
      rw [tb_E1] at hw
      by_cases hc : sh_cor (tb_sh T) r = true
      · rw [if_pos hc, List.mem_map] at hw
        obtain ⟨v, hv, e⟩ := hw
        have p := tb_put_un T r hV hc
        have hz := tb_un_sz T r hc
        have g := (ih _ v p.1 (by rw [tb_un_len, h7]) (by omega) (by omega)).mp hv
        rw [← e, tb_W_snoc, g.1, p.2.1, List.length_append, g.2]
        exact ⟨rfl, rfl⟩
      · rw [if_neg hc] at hw; cases hw
    · rintro ⟨e, hl⟩
      obtain ⟨v, x, rfl, hv⟩ := ls_split hl
      rw [tb_W_snoc] at e
      have hr := tb_W_room (w := v) (by omega)
      have hc := tb_cor_put (tb_W v) x (tb_W_V v) hr
      have hu := tb_un_put (tb_W v) x (tb_W_S v) hr
      rw [e] at hc hu
      refine ⟨tb_row (tb_W v) x, ?_, ?_⟩
      · rw [List.mem_range'_1]; have := hc.2; rw [tb_W_len] at this; omega
      · rw [tb_E1, if_pos hc.1, List.mem_map]
        have hz := tb_un_sz T _ hc.1
        have p := tb_put_un T _ hV hc.1
        refine ⟨v, (ih _ v p.1 (by rw [tb_un_len, h7]) (by omega) (by omega)).mpr ⟨?_, hv⟩, ?_⟩
        · rw [hu]
        · rw [hu]
/-- pieces without repetition, apart from one another -/
theorem ls_nodup_flat {f : Nat → List (List Nat)} : ∀ (l : List Nat), l.Nodup → (∀ r, r ∈ l → (f r).Nodup) → (∀ r s w, r ∈ l → s ∈ l → w ∈ f r → w ∈ f s → r = s) → (l.flatMap f).Nodup := by
  intro l
  induction l with
  | nil => intro _ _ _; exact List.Pairwise.nil
  | cons a l ih =>
    intro hn hf hd
    rw [List.flatMap_cons]
    have hn' := List.pairwise_cons.mp hn
    refine List.pairwise_append.mpr ⟨hf a List.mem_cons_self, ih hn'.2 (fun r hr => hf r (List.mem_cons_of_mem _ hr)) (fun r s w hr hs => hd r s w (List.mem_cons_of_mem _ hr) (List.mem_cons_of_mem _ hs)), ?_⟩
    intro u hu v hv e
    subst e
    obtain ⟨s, hs, hs2⟩ := List.mem_flatMap.mp hv
    have := hd a s u List.mem_cons_self (List.mem_cons_of_mem _ hs) hu hs2
    exact hn'.1 s hs this
theorem tb_E_nodup : ∀ (n : Nat) (T : List (List Nat)), tb_V T → T.length = 7 → (tb_rd T).length = n → n ≤ 7 → (tb_E n T).Nodup := by
  intro n
  induction n with
  | zero => intro T _ _ _ _; exact List.pairwise_singleton _ _
  | succ n ih =>
    intro T hV h7 hn hle
    rw [tb_E_succ]
    have row : ∀ r w, w ∈ tb_E1 (tb_E n) T r → ∃ v, w = v ++ [(tb_un T r).2] ∧ tb_row (tb_W v) (tb_un T r).2 = r := by
      intro r w hw
      rw [tb_E1] at hw
      by_cases hc : sh_cor (tb_sh T) r = true
      · rw [if_pos hc, List.mem_map] at hw
        obtain ⟨v, hv, e⟩ := hw
        have p := tb_put_un T r hV hc
        have hz := tb_un_sz T r hc
        have g := (tb_E_mem n _ v p.1 (by rw [tb_un_len, h7]) (by omega) (by omega)).mp hv
        exact ⟨v, e.symm, by rw [g.1]; exact p.2.2.1⟩
      · rw [if_neg hc] at hw; cases hw
    refine ls_nodup_flat _ (by decide) (fun r _ => ?_) (fun r s w _ _ hr hs => ?_)
    · rw [tb_E1]
      by_cases hc : sh_cor (tb_sh T) r = true
      · rw [if_pos hc]
        have p := tb_put_un T r hV hc
        have hz := tb_un_sz T r hc
        have g := ih _ p.1 (by rw [tb_un_len, h7]) (by omega) (by omega)
        refine List.pairwise_map.mpr (g.imp ?_)
        intro a b hab e
        exact hab (List.append_cancel_right e)
      · rw [if_neg hc]; exact List.Pairwise.nil
    · obtain ⟨v, e, h1⟩ := row r w hr
      obtain ⟨v', e', h2⟩ := row s w hs
      rw [e] at e'
      have q := List.append_inj' e' rfl
      have q2 : (tb_un T r).2 = (tb_un T s).2 := by have := q.2; simpa using this
      rw [← h1, ← h2, q.1, q2]
def sh_f : Nat → List Nat → Nat
  | 0, _ => 1
  | n + 1, l => ((List.range' 0 7).map (fun r => if sh_cor l r = true then sh_f n (sh_dec l r) else 0)).sum
theorem tb_E_len : ∀ (n : Nat) (T : List (List Nat)), (tb_E n T).length = sh_f n (tb_sh T) := by
  intro n
  induction n with
  | zero => intro T; rfl
  | succ n ih =>
    intro T
    rw [tb_E_succ, List.length_flatMap, sh_f]
    congr 1
    apply List.map_congr_left
    intro r _
    rw [tb_E1]
    by_cases hc : sh_cor (tb_sh T) r = true
    · rw [if_pos hc, if_pos hc, List.length_map, ih, tb_un_sh]
    · rw [if_neg hc, if_neg hc]; rfl
/-- steps of the walk over all levels, from a level's first row on -/
def sh_g : Nat → List Nat → Nat
  | 0, _ => 1
  | n + 1, l => 8 + ((List.range' 0 7).map (fun r => if sh_cor l r = true then sh_g n (sh_dec l r) else 0)).sum
/-- the shapes: k rows, the first at most m, all together at most s -/
def sh_all : Nat → Nat → Nat → List (List Nat)
  | 0, _, _ => [[]]
  | k + 1, m, s => (List.range (min m s + 1)).flatMap (fun a => (sh_all k a (s - a)).map (fun l => a :: l))
def sh_ok : List Nat → Prop
  | [] => True
  | a :: l => l.headD 0 ≤ a ∧ sh_ok l
theorem sh_mem : ∀ (l : List Nat) (m s : Nat), sh_ok l → l.headD 0 ≤ m → l.sum ≤ s → l ∈ sh_all l.length m s := by
  intro l
  induction l with
  | nil => intro m s _ _ _; exact List.mem_singleton.mpr rfl
  | cons a l ih =>
    intro m s h hm hs
    have h' : l.headD 0 ≤ a ∧ sh_ok l := h
    have hm' : a ≤ m := hm
    rw [List.sum_cons] at hs
    show a :: l ∈ sh_all (l.length + 1) m s
    rw [sh_all, List.mem_flatMap]
    exact ⟨a, List.mem_range.mpr (by omega), List.mem_map.mpr ⟨l, ih a (s - a) h'.2 h'.1 (by omega), rfl⟩⟩
theorem tb_sh_ok : ∀ T : List (List Nat), tb_V T → sh_ok (tb_sh T) := by
  intro T
  induction T with
  | nil => intro _; trivial
  | cons R T ih =>
    intro h
    have h' : rs_S R ∧ tb_dom R (T.headD []) ∧ tb_V T := h
    rw [tb_sh_cons]
    exact ⟨by rw [tb_sh_head]; exact tb_dom_len _ _ h'.2.1, ih h'.2.2⟩
theorem tb_sh_sum : ∀ T : List (List Nat), (tb_sh T).sum = (tb_rd T).length := by
  intro T
  induction T with
  | nil => rfl
  | cons R T ih => rw [tb_sh_cons, List.sum_cons, ih]; show _ = (tb_rd T ++ R).length; rw [List.length_append]; omega
theorem tb_sh_in {T : List (List Nat)} (hV : tb_V T) (h7 : T.length = 7) (hn : (tb_rd T).length ≤ 7) : tb_sh T ∈ sh_all 7 7 7 := by
  have e : (tb_sh T).length = 7 := by rw [tb_sh, List.length_map, h7]
  have hs : (tb_sh T).sum ≤ 7 := by rw [tb_sh_sum]; exact hn
  have := sh_mem (tb_sh T) 7 7 (tb_sh_ok T hV) (by
    generalize tb_sh T = l at hs
    cases l with
    | nil => exact Nat.zero_le _
    | cons a l => rw [List.sum_cons] at hs; show a ≤ 7; omega) hs
  rwa [e] at this
/-- hooks, as the component reckons them -/
def sh_at (l : List Nat) (r : Nat) : Nat := l.getD r 0
def sh_hk (l : List Nat) (r c : Nat) : Nat := (List.range' (r + 1) (6 - r)).foldl (fun n q => if c < sh_at l q then n + 1 else n) (sh_at l r - c)
def sh_kin (l : List Nat) : Nat → Nat × Nat × Nat
  | 0 => (1, 1, 0)
  | k + 1 => if k % 7 < sh_at l (k / 7) then ((sh_kin l k).1 * ((sh_kin l k).2.2 + 1), (sh_kin l k).2.1 * sh_hk l (k / 7) (k % 7), (sh_kin l k).2.2 + 1) else sh_kin l k
def sh_good (l : List Nat) : Bool := decide (sh_f l.sum l ≤ 35) && decide (sh_g l.sum l < 90000) && decide ((sh_kin l 49).1 < 100000) && decide (0 < (sh_kin l 49).2.1) && decide ((sh_kin l 49).2.1 < 100000) && decide ((sh_kin l 49).1 / (sh_kin l 49).2.1 = sh_f l.sum l)
set_option maxRecDepth 100000 in
theorem sh_good_all : ∀ l, l ∈ sh_all 7 7 7 → sh_good l = true := by
  have h : (sh_all 7 7 7).all sh_good = true := by decide +kernel
  exact List.all_eq_true.mp h
theorem sh_facts {l : List Nat} (h : l ∈ sh_all 7 7 7) : sh_f l.sum l ≤ 35 ∧ sh_g l.sum l < 90000 ∧ (sh_kin l 49).1 < 100000 ∧ 0 < (sh_kin l 49).2.1 ∧ (sh_kin l 49).2.1 < 100000 ∧ (sh_kin l 49).1 / (sh_kin l 49).2.1 = sh_f l.sum l := by
  have := sh_good_all l h
  simp only [sh_good, Bool.and_eq_true, decide_eq_true_eq] at this
  obtain ⟨⟨⟨⟨⟨a, b⟩, c⟩, d⟩, e⟩, f⟩ := this
  exact ⟨a, b, c, d, e, f⟩
end
section
/-! colourings of words: how many letters k rising (falling) parts can cover -/
def gr_R (ok : Nat → Nat → Prop) (p q : Nat × Nat) : Prop := p.2 = q.2 → p.2 ≠ 0 → ok p.1 q.1
def gr_val (ok : Nat → Nat → Prop) (c : List (Nat × Nat)) : Prop := c.Pairwise (gr_R ok)
def gr_cnt (c : List (Nat × Nat)) : Nat := c.countP (fun p => decide (p.2 ≠ 0))
def gr_has (ok : Nat → Nat → Prop) (k m : Nat) (w : List Nat) : Prop :=
  ∃ c : List (Nat × Nat), c.map (fun p => p.1) = w ∧ (∀ p, p ∈ c → p.2 ≤ k) ∧ gr_val ok c ∧ m ≤ gr_cnt c
theorem gr_split {ok : Nat → Nat → Prop} {A B : List (Nat × Nat)} {x y z : Nat × Nat} :
    gr_val ok (A ++ ([x, y, z] ++ B)) ↔ gr_val ok A ∧ gr_val ok B ∧ (gr_R ok x y ∧ gr_R ok x z ∧ gr_R ok y z) ∧
      (∀ q, q ∈ A → gr_R ok q x ∧ gr_R ok q y ∧ gr_R ok q z) ∧ (∀ b, b ∈ B → gr_R ok x b ∧ gr_R ok y b ∧ gr_R ok z b) ∧
      (∀ q, q ∈ A → ∀ b, b ∈ B → gr_R ok q b) := by
  unfold gr_val
  constructor
  · intro h
    rw [List.pairwise_append] at h
    obtain ⟨hA, h1, h2⟩ := h
    rw [List.pairwise_append] at h1
    obtain ⟨h3, hB, h4⟩ := h1
    simp only [List.pairwise_cons, List.mem_cons, List.not_mem_nil, or_false, forall_eq_or_imp, forall_eq, false_imp_iff, implies_true, List.Pairwise.nil, and_true] at h3
    refine ⟨hA, hB, ⟨h3.1.1, h3.1.2, h3.2⟩, fun q hq => ⟨h2 q hq x (by simp), h2 q hq y (by simp), h2 q hq z (by simp)⟩, fun b hb => ⟨h4 x (by simp) b hb, h4 y (by simp) b hb, h4 z (by simp) b hb⟩, fun q hq b hb => h2 q hq b (by simp [hb])⟩
  · rintro ⟨hA, hB, ⟨a, b, c⟩, h1, h2, h3⟩
    rw [List.pairwise_append, List.pairwise_append]
    refine ⟨hA, ⟨?_, hB, ?_⟩, ?_⟩
    · simp only [List.pairwise_cons, List.mem_cons, List.not_mem_nil, or_false, forall_eq_or_imp, forall_eq, false_imp_iff, implies_true, List.Pairwise.nil, and_true]
      exact ⟨⟨a, b⟩, c⟩
    · intro p hp q hq
      simp only [List.mem_cons, List.not_mem_nil, or_false] at hp
      rcases hp with e | e | e
      · rw [e]; exact (h2 q hq).1
      · rw [e]; exact (h2 q hq).2.1
      · rw [e]; exact (h2 q hq).2.2
    · intro p hp q hq
      simp only [List.mem_append, List.mem_cons, List.not_mem_nil, or_false] at hq
      rcases hq with (e | e | e) | e
      · rw [e]; exact (h1 p hp).1
      · rw [e]; exact (h1 p hp).2.1
      · rw [e]; exact (h1 p hp).2.2
      · exact h3 p hp q e
/-- two colours exchanged -/
def gr_t (c d e : Nat) : Nat := if e = c then d else if e = d then c else e
theorem gr_t_c (c d : Nat) : gr_t c d c = d := if_pos rfl
theorem gr_t_d (c d : Nat) : gr_t c d d = c := by
  unfold gr_t
  by_cases h : d = c
  · rw [if_pos h, h]
  · rw [if_neg h, if_pos rfl]
theorem gr_t_t (c d e : Nat) : gr_t c d (gr_t c d e) = e := by
  unfold gr_t
  split
  · split
    · omega
    · rw [if_pos rfl]; omega
  · split
    · rw [if_pos rfl]; omega
    · rfl
theorem gr_t_inj {c d e f : Nat} (h : gr_t c d e = gr_t c d f) : e = f := by
  have := congrArg (gr_t c d) h
  rwa [gr_t_t, gr_t_t] at this
theorem gr_t_ne {c d e : Nat} (hc : c ≠ 0) (hd : d ≠ 0) : gr_t c d e ≠ 0 ↔ e ≠ 0 := by
  unfold gr_t
  split
  · omega
  · split <;> omega
theorem gr_t_le {c d e k : Nat} (hc : c ≤ k) (hd : d ≤ k) (he : e ≤ k) : gr_t c d e ≤ k := by
  unfold gr_t
  split
  · exact hd
  · split
    · exact hc
    · exact he
def gr_f (c d : Nat) (p : Nat × Nat) : Nat × Nat := (p.1, gr_t c d p.2)
theorem gr_f_val {ok : Nat → Nat → Prop} {c d : Nat} (hc : c ≠ 0) (hd : d ≠ 0) {B : List (Nat × Nat)} (h : gr_val ok B) : gr_val ok (B.map (gr_f c d)) := by
  refine List.pairwise_map.mpr (List.Pairwise.imp ?_ h)
  intro p q hpq e n
  exact hpq (gr_t_inj e) ((gr_t_ne hc hd).mp n)
theorem gr_f_cnt {c d : Nat} (hc : c ≠ 0) (hd : d ≠ 0) (B : List (Nat × Nat)) : gr_cnt (B.map (gr_f c d)) = gr_cnt B := by
  unfold gr_cnt
  rw [List.countP_map]
  apply List.countP_congr
  intro p _
  show decide (gr_t c d p.2 ≠ 0) = true ↔ decide (p.2 ≠ 0) = true
  rw [decide_eq_true_eq, decide_eq_true_eq]
  exact gr_t_ne hc hd
theorem gr_f_map (c d : Nat) (B : List (Nat × Nat)) : (B.map (gr_f c d)).map (fun p => p.1) = B.map (fun p => p.1) := by
  rw [List.map_map]; rfl
theorem gr_cnt_app (A B : List (Nat × Nat)) : gr_cnt (A ++ B) = gr_cnt A + gr_cnt B := List.countP_append
theorem gr_cnt3 (x y z : Nat × Nat) : gr_cnt [x, y, z] = (if x.2 ≠ 0 then 1 else 0) + (if y.2 ≠ 0 then 1 else 0) + (if z.2 ≠ 0 then 1 else 0) := by
  unfold gr_cnt
  simp only [List.countP_cons, List.countP_nil, decide_eq_true_eq]
  omega
/-- a colouring of a word with a triple in it, taken apart -/
theorem gr_open {ok : Nat → Nat → Prop} {k m : Nat} {a b : List Nat} {x y z : Nat} (h : gr_has ok k m (a ++ ([x, y, z] ++ b))) :
    ∃ A B cx cy cz, A.map (fun p => p.1) = a ∧ B.map (fun p => p.1) = b ∧ (∀ p, p ∈ A → p.2 ≤ k) ∧ (∀ p, p ∈ B → p.2 ≤ k) ∧ cx ≤ k ∧ cy ≤ k ∧ cz ≤ k ∧
      gr_val ok (A ++ ([(x, cx), (y, cy), (z, cz)] ++ B)) ∧ m ≤ gr_cnt A + gr_cnt [(x, cx), (y, cy), (z, cz)] + gr_cnt B := by
  obtain ⟨c, h1, h2, h3, h4⟩ := h
  obtain ⟨A, U, e, hA, hU⟩ := List.map_eq_append_iff.mp h1
  obtain ⟨V, B, e2, hV, hB⟩ := List.map_eq_append_iff.mp hU
  subst e
  subst e2
  match V, hV with
  | [(x', cx), (y', cy), (z', cz)], hV =>
    simp only [List.map_cons, List.map_nil, List.cons.injEq, and_true] at hV
    obtain ⟨rfl, rfl, rfl⟩ := hV
    refine ⟨A, B, cx, cy, cz, hA, hB, fun p hp => h2 p (by simp [hp]), fun p hp => h2 p (by simp [hp]), h2 (x', cx) (by simp), h2 (y', cy) (by simp), h2 (z', cz) (by simp), h3, ?_⟩
    rw [gr_cnt_app, gr_cnt_app] at h4
    omega
theorem gr_close {ok : Nat → Nat → Prop} {k m : Nat} {a b : List Nat} {A B : List (Nat × Nat)} {x y z cx cy cz : Nat} (hA : A.map (fun p => p.1) = a) (hB : B.map (fun p => p.1) = b)
    (kA : ∀ p, p ∈ A → p.2 ≤ k) (kB : ∀ p, p ∈ B → p.2 ≤ k) (kx : cx ≤ k) (ky : cy ≤ k) (kz : cz ≤ k)
    (hv : gr_val ok (A ++ ([(x, cx), (y, cy), (z, cz)] ++ B))) (hm : m ≤ gr_cnt A + gr_cnt [(x, cx), (y, cy), (z, cz)] + gr_cnt B) : gr_has ok k m (a ++ ([x, y, z] ++ b)) := by
  refine ⟨A ++ ([(x, cx), (y, cy), (z, cz)] ++ B), ?_, ?_, hv, ?_⟩
  · rw [List.map_append, List.map_append, hA, hB]; rfl
  · intro p hp
    simp only [List.mem_append, List.mem_cons, List.not_mem_nil, or_false] at hp
    rcases hp with e | (e | e | e) | e
    · exact kA p e
    · rw [e]; exact kx
    · rw [e]; exact ky
    · rw [e]; exact kz
    · exact kB p e
  · rw [gr_cnt_app, gr_cnt_app]; omega
theorem gr_kf {c d k : Nat} {B : List (Nat × Nat)} (hc : c ≤ k) (hd : d ≤ k) (kB : ∀ p, p ∈ B → p.2 ≤ k) : ∀ p, p ∈ B.map (gr_f c d) → p.2 ≤ k := by
  intro p hp
  obtain ⟨q, hq, e⟩ := List.mem_map.mp hp
  rw [← e]
  exact gr_t_le hc hd (kB q hq)
/-- triples whose third letter stands still -/
theorem gr_two {ok : Nat → Nat → Prop} (tr : ∀ x y z, ok x y → ok y z → ok x z) {k m : Nat} {a b : List Nat} {s t p : Nat}
    (h1 : ok s t) (h2 : ok s p) (h3 : ¬ ok t p) (h4 : ∀ q, ok q p → ok q t) (h5 : ∀ q, ok t q → ok p q)
    (h : gr_has ok k m (a ++ ([s, t, p] ++ b))) : gr_has ok k m (a ++ ([t, s, p] ++ b)) := by
  obtain ⟨A, B, cs, ct, cp, hA, hB, kA, kB, ks, kt, kp, hv, hm⟩ := gr_open h
  rw [gr_split] at hv
  obtain ⟨vA, vB, ⟨v1, v2, v3⟩, v4, v5, v6⟩ := hv
  rw [gr_cnt3] at hm
  by_cases hc : cs = ct ∧ cs ≠ 0
  · obtain ⟨rfl, hc0⟩ := hc
    have hdc : cp ≠ cs := fun e => h3 (v3 e.symm hc0)
    by_cases hp0 : cp = 0
    · subst hp0
      refine gr_close hA hB kA kB (Nat.zero_le k) ks ks (cx := 0) (cy := cs) (cz := cs) ?_ ?_
      · rw [gr_split]
        refine ⟨vA, vB, ⟨fun _ z => absurd rfl z, fun _ z => absurd rfl z, fun _ _ => h2⟩, fun q hq => ⟨fun e n => absurd e n, (v4 q hq).1, fun e n => tr _ _ _ ((v4 q hq).1 e n) h2⟩, fun q hq => ⟨fun _ z => absurd rfl z, (v5 q hq).1, fun e n => h5 _ ((v5 q hq).2.1 e n)⟩, v6⟩
      · rw [gr_cnt3]
        simp only [ne_eq, hc0, not_false_eq_true, not_true_eq_false, if_true, if_false] at hm ⊢
        omega
    · refine gr_close hA ((gr_f_map cs cp B).trans hB) kA (gr_kf ks kp kB) kp ks ks (cx := cp) (cy := cs) (cz := cs) ?_ ?_
      · rw [gr_split]
        have toB : ∀ {P : Nat × Nat → Prop}, (∀ q, q ∈ B → P (gr_f cs cp q)) → ∀ q, q ∈ B.map (gr_f cs cp) → P q := by
          intro P hP q hq
          obtain ⟨r, hr, e⟩ := List.mem_map.mp hq
          rw [← e]; exact hP r hr
        refine ⟨vA, gr_f_val hc0 hp0 vB, ⟨fun e _ => absurd e hdc, fun e _ => absurd e hdc, fun _ _ => h2⟩, fun q hq => ⟨fun e n => h4 _ ((v4 q hq).2.2 e n), (v4 q hq).1, fun e n => tr _ _ _ ((v4 q hq).1 e n) h2⟩, toB (fun q hq => ⟨?_, ?_, ?_⟩), fun q hq => toB (fun r hr => ?_)⟩
        · intro e n
          have e' : q.2 = cs := gr_t_inj (c := cs) (d := cp) ((e.symm).trans (gr_t_c cs cp).symm)
          exact (v5 q hq).2.1 e'.symm hc0
        · intro e n
          have e' : q.2 = cp := gr_t_inj (c := cs) (d := cp) ((e.symm).trans (gr_t_d cs cp).symm)
          exact tr _ _ _ h2 ((v5 q hq).2.2 e'.symm hp0)
        · intro e n
          have e' : q.2 = cp := gr_t_inj (c := cs) (d := cp) ((e.symm).trans (gr_t_d cs cp).symm)
          exact (v5 q hq).2.2 e'.symm hp0
        · intro e n
          by_cases g : q.2 = cs
          · have e' : r.2 = cp := gr_t_inj (c := cs) (d := cp) ((e.symm.trans g).trans (gr_t_d cs cp).symm)
            exact tr _ _ _ (tr _ _ _ ((v4 q hq).1 g n) h2) ((v5 r hr).2.2 e'.symm hp0)
          · by_cases g2 : q.2 = cp
            · have e' : r.2 = cs := gr_t_inj (c := cs) (d := cp) ((e.symm.trans g2).trans (gr_t_c cs cp).symm)
              exact tr _ _ _ (h4 _ ((v4 q hq).2.2 g2 n)) ((v5 r hr).2.1 e'.symm hc0)
            · have e3 : gr_t cs cp q.2 = q.2 := by unfold gr_t; rw [if_neg g, if_neg g2]
              have e' : q.2 = r.2 := gr_t_inj (c := cs) (d := cp) (e3.trans e)
              exact v6 q hq r hr e' n
      · rw [gr_cnt3, gr_f_cnt hc0 hp0]
        simp only [ne_eq, hc0, hp0, not_false_eq_true, if_true] at hm ⊢
        omega
  · refine gr_close hA hB kA kB kt ks kp (cx := ct) (cy := cs) (cz := cp) ?_ ?_
    · rw [gr_split]
      refine ⟨vA, vB, ⟨fun e n => absurd ⟨e.symm, fun z => n (e.trans z)⟩ hc, v3, v2⟩, fun q hq => ⟨(v4 q hq).2.1, (v4 q hq).1, (v4 q hq).2.2⟩, fun q hq => ⟨(v5 q hq).2.1, (v5 q hq).1, (v5 q hq).2.2⟩, v6⟩
    · rw [gr_cnt3]
      omega
/-- triples whose first letter stands still -/
theorem gr_one {ok : Nat → Nat → Prop} (tr : ∀ x y z, ok x y → ok y z → ok x z) {k m : Nat} {a b : List Nat} {s t p : Nat}
    (h1 : ok s t) (h2 : ok p t) (h3 : ¬ ok p s) (h4 : ∀ q, ok q s → ok q p) (h5 : ∀ q, ok p q → ok s q)
    (h : gr_has ok k m (a ++ ([p, s, t] ++ b))) : gr_has ok k m (a ++ ([p, t, s] ++ b)) := by
  obtain ⟨A, B, cp, cs, ct, hA, hB, kA, kB, kp, ks, kt, hv, hm⟩ := gr_open h
  rw [gr_split] at hv
  obtain ⟨vA, vB, ⟨v1, v2, v3⟩, v4, v5, v6⟩ := hv
  rw [gr_cnt3] at hm
  by_cases hc : cs = ct ∧ cs ≠ 0
  · obtain ⟨rfl, hc0⟩ := hc
    have hdc : cp ≠ cs := fun e => h3 (v1 e (fun z => hc0 (e.symm.trans z)))
    by_cases hp0 : cp = 0
    · subst hp0
      refine gr_close hA hB kA kB ks ks (Nat.zero_le k) (cx := cs) (cy := cs) (cz := 0) ?_ ?_
      · rw [gr_split]
        refine ⟨vA, vB, ⟨fun _ _ => h2, fun e n => absurd e n, fun e n => absurd e n⟩, fun q hq => ⟨fun e n => h4 _ ((v4 q hq).2.1 e n), (v4 q hq).2.2, fun e n => absurd e n⟩, fun q hq => ⟨fun e n => tr _ _ _ h2 ((v5 q hq).2.2 e n), (v5 q hq).2.2, fun _ z => absurd rfl z⟩, v6⟩
      · rw [gr_cnt3]
        simp only [ne_eq, hc0, not_false_eq_true, not_true_eq_false, if_true, if_false] at hm ⊢
        omega
    · refine gr_close hA ((gr_f_map cs cp B).trans hB) kA (gr_kf ks kp kB) kp kp ks (cx := cp) (cy := cp) (cz := cs) ?_ ?_
      · rw [gr_split]
        have toB : ∀ {P : Nat × Nat → Prop}, (∀ q, q ∈ B → P (gr_f cs cp q)) → ∀ q, q ∈ B.map (gr_f cs cp) → P q := by
          intro P hP q hq
          obtain ⟨r, hr, e⟩ := List.mem_map.mp hq
          rw [← e]; exact hP r hr
        refine ⟨vA, gr_f_val hc0 hp0 vB, ⟨fun _ _ => h2, fun e _ => absurd e hdc, fun e _ => absurd e hdc⟩, fun q hq => ⟨(v4 q hq).1, fun e n => tr _ _ _ ((v4 q hq).1 e n) h2, (v4 q hq).2.1⟩, toB (fun q hq => ⟨?_, ?_, ?_⟩), fun q hq => toB (fun r hr => ?_)⟩
        · intro e n
          have e' : q.2 = cs := gr_t_inj (c := cs) (d := cp) ((e.symm).trans (gr_t_c cs cp).symm)
          exact tr _ _ _ h2 ((v5 q hq).2.2 e'.symm hc0)
        · intro e n
          have e' : q.2 = cs := gr_t_inj (c := cs) (d := cp) ((e.symm).trans (gr_t_c cs cp).symm)
          exact (v5 q hq).2.2 e'.symm hc0
        · intro e n
          have e' : q.2 = cp := gr_t_inj (c := cs) (d := cp) ((e.symm).trans (gr_t_d cs cp).symm)
          exact h5 _ ((v5 q hq).1 e'.symm hp0)
        · intro e n
          by_cases g : q.2 = cs
          · have e' : r.2 = cp := gr_t_inj (c := cs) (d := cp) ((e.symm.trans g).trans (gr_t_d cs cp).symm)
            exact tr _ _ _ (h4 _ ((v4 q hq).2.1 g n)) ((v5 r hr).1 e'.symm hp0)
          · by_cases g2 : q.2 = cp
            · have e' : r.2 = cs := gr_t_inj (c := cs) (d := cp) ((e.symm.trans g2).trans (gr_t_c cs cp).symm)
              exact tr _ _ _ ((v4 q hq).1 g2 n) (tr _ _ _ h2 ((v5 r hr).2.2 e'.symm hc0))
            · have e3 : gr_t cs cp q.2 = q.2 := by unfold gr_t; rw [if_neg g, if_neg g2]
              have e' : q.2 = r.2 := gr_t_inj (c := cs) (d := cp) (e3.trans e)
              exact v6 q hq r hr e' n
      · rw [gr_cnt3, gr_f_cnt hc0 hp0]
        simp only [ne_eq, hc0, hp0, not_false_eq_true, if_true] at hm ⊢
        omega
  · refine gr_close hA hB kA kB kp kt ks (cx := cp) (cy := ct) (cz := cs) ?_ ?_
    · rw [gr_split]
      refine ⟨vA, vB, ⟨v2, v1, fun e n => absurd ⟨e.symm, fun z => n (e.trans z)⟩ hc⟩, fun q hq => ⟨(v4 q hq).1, (v4 q hq).2.2, (v4 q hq).2.1⟩, fun q hq => ⟨(v5 q hq).1, (v5 q hq).2.2, (v5 q hq).2.1⟩, v6⟩
    · rw [gr_cnt3]
      omega
/-- two letters of a triple that can't have one colour exchange as they are -/
theorem gr_free2 {ok : Nat → Nat → Prop} {k m : Nat} {a b : List Nat} {s t p : Nat} (h1 : ¬ ok s t)
    (h : gr_has ok k m (a ++ ([s, t, p] ++ b))) : gr_has ok k m (a ++ ([t, s, p] ++ b)) := by
  obtain ⟨A, B, cs, ct, cp, hA, hB, kA, kB, ks, kt, kp, hv, hm⟩ := gr_open h
  rw [gr_split] at hv
  obtain ⟨vA, vB, ⟨v1, v2, v3⟩, v4, v5, v6⟩ := hv
  rw [gr_cnt3] at hm
  refine gr_close hA hB kA kB kt ks kp (cx := ct) (cy := cs) (cz := cp) ?_ ?_
  · rw [gr_split]
    refine ⟨vA, vB, ⟨fun e n => absurd (v1 e.symm (fun z => n (e.trans z))) h1, v3, v2⟩, fun q hq => ⟨(v4 q hq).2.1, (v4 q hq).1, (v4 q hq).2.2⟩, fun q hq => ⟨(v5 q hq).2.1, (v5 q hq).1, (v5 q hq).2.2⟩, v6⟩
  · rw [gr_cnt3]
    omega
theorem gr_free1 {ok : Nat → Nat → Prop} {k m : Nat} {a b : List Nat} {s t p : Nat} (h1 : ¬ ok s t)
    (h : gr_has ok k m (a ++ ([p, s, t] ++ b))) : gr_has ok k m (a ++ ([p, t, s] ++ b)) := by
  obtain ⟨A, B, cp, cs, ct, hA, hB, kA, kB, kp, ks, kt, hv, hm⟩ := gr_open h
  rw [gr_split] at hv
  obtain ⟨vA, vB, ⟨v1, v2, v3⟩, v4, v5, v6⟩ := hv
  rw [gr_cnt3] at hm
  refine gr_close hA hB kA kB kp kt ks (cx := cp) (cy := ct) (cz := cs) ?_ ?_
  · rw [gr_split]
    refine ⟨vA, vB, ⟨v2, v1, fun e n => absurd (v3 e.symm (fun z => n (e.trans z))) h1⟩, fun q hq => ⟨(v4 q hq).1, (v4 q hq).2.2, (v4 q hq).2.1⟩, fun q hq => ⟨(v5 q hq).1, (v5 q hq).2.2, (v5 q hq).2.1⟩, v6⟩
  · rw [gr_cnt3]
    omega
/-- rising: not falling; falling: strictly -/
def gr_ok (up : Bool) (x y : Nat) : Prop := if up = true then x ≤ y else y < x
theorem gr_ok_t (x y : Nat) : gr_ok true x y ↔ x ≤ y := by unfold gr_ok; simp
theorem gr_ok_f (x y : Nat) : gr_ok false x y ↔ y < x := by unfold gr_ok; simp
theorem gr_ok_tr (up : Bool) : ∀ x y z, gr_ok up x y → gr_ok up y z → gr_ok up x z := by
  cases up
  · intro x y z; rw [gr_ok_f, gr_ok_f, gr_ok_f]; omega
  · intro x y z; rw [gr_ok_t, gr_ok_t, gr_ok_t]; omega
theorem gr_step {up : Bool} {k m : Nat} {w w' : List Nat} (h : gr_has (gr_ok up) k m w) (s : kn_step w w') : gr_has (gr_ok up) k m w' := by
  obtain ⟨a, u, v, b, ht, e, e'⟩ := s
  subst e
  subst e'
  obtain ⟨x, y, z, ht⟩ := ht
  cases up
  · rcases ht with ⟨l1, l2, ⟨rfl, rfl⟩ | ⟨rfl, rfl⟩⟩ | ⟨l1, l2, ⟨rfl, rfl⟩ | ⟨rfl, rfl⟩⟩
    · exact gr_free2 (by rw [gr_ok_f]; omega) h
    · refine gr_two (gr_ok_tr false) ?_ ?_ ?_ ?_ ?_ h
      · rw [gr_ok_f]; omega
      · rw [gr_ok_f]; omega
      · rw [gr_ok_f]; omega
      · intro q; rw [gr_ok_f, gr_ok_f]; omega
      · intro q; rw [gr_ok_f, gr_ok_f]; omega
    · exact gr_free1 (by rw [gr_ok_f]; omega) h
    · refine gr_one (gr_ok_tr false) ?_ ?_ ?_ ?_ ?_ h
      · rw [gr_ok_f]; omega
      · rw [gr_ok_f]; omega
      · rw [gr_ok_f]; omega
      · intro q; rw [gr_ok_f, gr_ok_f]; omega
      · intro q; rw [gr_ok_f, gr_ok_f]; omega
  · rcases ht with ⟨l1, l2, ⟨rfl, rfl⟩ | ⟨rfl, rfl⟩⟩ | ⟨l1, l2, ⟨rfl, rfl⟩ | ⟨rfl, rfl⟩⟩
    · refine gr_two (gr_ok_tr true) ?_ ?_ ?_ ?_ ?_ h
      · rw [gr_ok_t]; omega
      · rw [gr_ok_t]; omega
      · rw [gr_ok_t]; omega
      · intro q; rw [gr_ok_t, gr_ok_t]; omega
      · intro q; rw [gr_ok_t, gr_ok_t]; omega
    · exact gr_free2 (by rw [gr_ok_t]; omega) h
    · refine gr_one (gr_ok_tr true) ?_ ?_ ?_ ?_ ?_ h
      · rw [gr_ok_t]; omega
      · rw [gr_ok_t]; omega
      · rw [gr_ok_t]; omega
      · intro q; rw [gr_ok_t, gr_ok_t]; omega
      · intro q; rw [gr_ok_t, gr_ok_t]; omega
    · exact gr_free1 (by rw [gr_ok_t]; omega) h
theorem gr_kn {up : Bool} {k m : Nat} {w w' : List Nat} (h : gr_has (gr_ok up) k m w) (e : kn_eq w w') : gr_has (gr_ok up) k m w' :=
  e (fun t => gr_has (gr_ok up) k m t) (fun _ _ hp hpq => gr_step hp hpq) h
end
section
/-! the reading word: letters with their rows and columns; what k parts cover -/
def sm_n : Nat → (Nat → Nat) → Nat
  | 0, _ => 0
  | n + 1, f => sm_n n f + f n
theorem sm_le : ∀ (n : Nat) (f g : Nat → Nat), (∀ j, j < n → f j ≤ g j) → sm_n n f ≤ sm_n n g := by
  intro n
  induction n with
  | zero => intro f g _; exact Nat.le_refl _
  | succ n ih => intro f g h; exact Nat.add_le_add (ih f g (fun j hj => h j (by omega))) (h n (by omega))
theorem sm_eq : ∀ (n : Nat) (f g : Nat → Nat), (∀ j, j < n → f j = g j) → sm_n n f = sm_n n g := by
  intro n
  induction n with
  | zero => intro f g _; rfl
  | succ n ih => intro f g h; show sm_n n f + f n = sm_n n g + g n; rw [ih f g (fun j hj => h j (by omega)), h n (by omega)]
theorem sm_add : ∀ (n : Nat) (f g : Nat → Nat), sm_n n (fun j => f j + g j) = sm_n n f + sm_n n g := by
  intro n
  induction n with
  | zero => intro f g; rfl
  | succ n ih => intro f g; show sm_n n _ + (f n + g n) = (sm_n n f + f n) + (sm_n n g + g n); rw [ih]; omega
theorem sm_zero : ∀ (n : Nat) (f : Nat → Nat), (∀ j, j < n → f j = 0) → sm_n n f = 0 := by
  intro n
  induction n with
  | zero => intro f _; rfl
  | succ n ih => intro f h; show sm_n n f + f n = 0; rw [ih f (fun j hj => h j (by omega)), h n (by omega)]
theorem sm_one : ∀ (n a v : Nat), a < n → sm_n n (fun j => if a = j then v else 0) = v := by
  intro n
  induction n with
  | zero => intro a v h; exact absurd h (Nat.not_lt_zero _)
  | succ n ih =>
    intro a v h
    show sm_n n (fun j => if a = j then v else 0) + (if a = n then v else 0) = v
    by_cases e : a = n
    · rw [if_pos e, sm_zero n _ (fun j hj => if_neg (by omega))]; omega
    · rw [if_neg e, ih a v (by omega)]; rfl
/-- a count by the values of an label -/
theorem ct_split {α : Type} (n : Nat) (p : α → Bool) (at' : α → Nat) : ∀ z : List α, (∀ e, e ∈ z → at' e < n) → z.countP p = sm_n n (fun j => z.countP (fun e => p e && decide (at' e = j))) := by
  intro z
  induction z with
  | nil => intro _; exact (sm_zero n _ (fun _ _ => rfl)).symm
  | cons e z ih =>
    intro h
    rw [List.countP_cons, ih (fun x hx => h x (List.mem_cons_of_mem _ hx))]
    have h1 : ∀ j, j < n → (e :: z).countP (fun e => p e && decide (at' e = j)) = z.countP (fun e => p e && decide (at' e = j)) + (if at' e = j then (if p e = true then 1 else 0) else 0) := by
      intro j _
      rw [List.countP_cons]
      congr 1
      by_cases a : p e = true
      · by_cases b : at' e = j
        · simp [a, b]
        · simp [b]
      · by_cases b : at' e = j
        · simp [a]
        · simp [a]
    rw [sm_eq n _ _ h1, sm_add, sm_one n _ _ (h e List.mem_cons_self)]
/-- different colours up to k: at most k of them -/
theorem gr_pig {α : Type} (k : Nat) (co : α → Nat) (z : List α) (hk : ∀ e, e ∈ z → co e ≤ k) (hp : z.Pairwise (fun p q => co p = co q → co p ≠ 0 → False)) : z.countP (fun e => decide (co e ≠ 0)) ≤ k := by
  rw [List.countP_eq_length_filter]
  have hn : ((z.filter (fun e => decide (co e ≠ 0))).map co).Nodup := by
    refine List.pairwise_map.mpr ?_
    have h1 := List.Pairwise.filter (fun e => decide (co e ≠ 0)) hp
    refine List.Pairwise.imp_of_mem ?_ h1
    intro a b ha hb hab e
    rw [List.mem_filter, decide_eq_true_eq] at ha
    exact hab e ha.2
  have hs : (z.filter (fun e => decide (co e ≠ 0))).map co ⊆ List.range' 1 k := by
    intro x hx
    obtain ⟨e, he, rfl⟩ := List.mem_map.mp hx
    rw [List.mem_filter, decide_eq_true_eq] at he
    have := hk e he.1
    rw [List.mem_range'_1]
    omega
  have := hn.length_le_of_subset hs
  rwa [List.length_map, List.length_range'] at this
theorem gr_upper {α : Type} (n k : Nat) (co at' : α → Nat) (z : List α) (hk : ∀ e, e ∈ z → co e ≤ k) (ha : ∀ e, e ∈ z → at' e < n)
    (hp : z.Pairwise (fun p q => at' p = at' q → co p = co q → co p ≠ 0 → False)) :
    z.countP (fun e => decide (co e ≠ 0)) ≤ sm_n n (fun j => min k (z.countP (fun e => decide (at' e = j)))) := by
  rw [ct_split n _ at' z ha]
  refine sm_le n _ _ (fun j _ => Nat.le_min.mpr ⟨?_, ?_⟩)
  · have e1 : z.countP (fun e => decide (co e ≠ 0) && decide (at' e = j)) = (z.filter (fun e => decide (at' e = j))).countP (fun e => decide (co e ≠ 0)) := by
      rw [List.countP_filter]
    rw [e1]
    refine gr_pig k co _ (fun e he => hk e (List.mem_filter.mp he).1) ?_
    have h1 := List.Pairwise.filter (fun e => decide (at' e = j)) hp
    refine List.Pairwise.imp_of_mem ?_ h1
    intro a b ha' hb' hab
    rw [List.mem_filter, decide_eq_true_eq] at ha' hb'
    exact hab (ha'.2.trans hb'.2.symm)
  · refine List.countP_mono_left (fun e _ h => ?_)
    rw [Bool.and_eq_true] at h
    exact h.2
/-- a row's letters with row and column -/
def gr_lab : Nat → Nat → List Nat → List (Nat × Nat × Nat)
  | _, _, [] => []
  | r, c, a :: R => (a, r, c) :: gr_lab r (c + 1) R
def gr_rd : Nat → List (List Nat) → List (Nat × Nat × Nat)
  | _, [] => []
  | r, R :: T => gr_rd (r + 1) T ++ gr_lab r 0 R
theorem gr_lab_map : ∀ (R : List Nat) (r c : Nat), (gr_lab r c R).map (fun e => e.1) = R := by
  intro R
  induction R with
  | nil => intro r c; rfl
  | cons a R ih => intro r c; show a :: _ = _; rw [ih]
theorem gr_rd_map : ∀ (T : List (List Nat)) (r : Nat), (gr_rd r T).map (fun e => e.1) = tb_rd T := by
  intro T
  induction T with
  | nil => intro r; rfl
  | cons R T ih => intro r; show (gr_rd (r + 1) T ++ gr_lab r 0 R).map _ = _; rw [List.map_append, ih, gr_lab_map]; rfl
theorem gr_lab_mem : ∀ (R : List Nat) (r c : Nat) (e : Nat × Nat × Nat), e ∈ gr_lab r c R → e.2.1 = r ∧ c ≤ e.2.2 ∧ R[e.2.2 - c]? = some e.1 := by
  intro R
  induction R with
  | nil => intro r c e h; cases h
  | cons a R ih =>
    intro r c e h
    rcases List.mem_cons.mp h with g | g
    · subst g
      refine ⟨rfl, Nat.le_refl _, ?_⟩
      show (a :: R)[c - c]? = some a
      rw [Nat.sub_self]; rfl
    · obtain ⟨h1, h2, h3⟩ := ih r (c + 1) e g
      refine ⟨h1, by omega, ?_⟩
      have e1 : e.2.2 - c = (e.2.2 - (c + 1)) + 1 := by omega
      rw [e1, List.getElem?_cons_succ]; exact h3
theorem gr_rd_row : ∀ (T : List (List Nat)) (r : Nat) (e : Nat × Nat × Nat), e ∈ gr_rd r T → r ≤ e.2.1 ∧ e.2.1 < r + T.length := by
  intro T
  induction T with
  | nil => intro r e h; cases h
  | cons R T ih =>
    intro r e h
    rcases List.mem_append.mp h with g | g
    · have := ih (r + 1) e g
      show r ≤ e.2.1 ∧ e.2.1 < r + (T.length + 1)
      omega
    · have := (gr_lab_mem R r 0 e g).1
      show r ≤ e.2.1 ∧ e.2.1 < r + (T.length + 1)
      omega
theorem tb_dom_get : ∀ (R S : List Nat) (j s : Nat), tb_dom R S → S[j]? = some s → ∃ a, R[j]? = some a ∧ a < s := by
  intro R
  induction R with
  | nil => intro S j s h hj; cases S with
    | nil => cases hj
    | cons b S => exact h.elim
  | cons a R ih => intro S j s h hj; cases S with
    | nil => cases hj
    | cons b S =>
      have h' : a < b ∧ tb_dom R S := h
      cases j with
      | zero => rw [List.getElem?_cons_zero] at hj ⊢; cases hj; exact ⟨a, rfl, h'.1⟩
      | succ j => rw [List.getElem?_cons_succ] at hj ⊢; exact ih S j s h'.2 hj
theorem gr_over : ∀ (T : List (List Nat)) (R : List Nat) (r : Nat) (e : Nat × Nat × Nat), tb_V (R :: T) → e ∈ gr_rd r T → ∃ a, R[e.2.2]? = some a ∧ a < e.1 := by
  intro T
  induction T with
  | nil => intro R r e _ h; cases h
  | cons S T ih =>
    intro R r e hV h
    have h' : rs_S R ∧ tb_dom R S ∧ tb_V (S :: T) := hV
    rcases List.mem_append.mp h with g | g
    · obtain ⟨b, hb, hlt⟩ := ih S (r + 1) e h'.2.2 g
      obtain ⟨a, ha, hlt2⟩ := tb_dom_get R S _ b h'.2.1 hb
      exact ⟨a, ha, by omega⟩
    · have := (gr_lab_mem S r 0 e g).2.2
      exact tb_dom_get R S _ _ h'.2.1 this
def gr_Q (p q : Nat × Nat × Nat) : Prop := (p.2.1 = q.2.1 → p.1 ≤ q.1) ∧ (p.2.2 = q.2.2 → q.1 < p.1)
theorem gr_lab_pw : ∀ (R : List Nat) (r c : Nat), rs_S R → (gr_lab r c R).Pairwise gr_Q := by
  intro R
  induction R with
  | nil => intro r c _; exact List.Pairwise.nil
  | cons a R ih =>
    intro r c h
    have hp := List.pairwise_cons.mp h
    refine List.pairwise_cons.mpr ⟨fun e he => ?_, ih r (c + 1) hp.2⟩
    have g := gr_lab_mem R r (c + 1) e he
    refine ⟨fun _ => hp.1 _ (List.mem_of_getElem? g.2.2), fun z => ?_⟩
    have z' : c = e.2.2 := z
    omega
theorem gr_rd_pw : ∀ (T : List (List Nat)) (r : Nat), tb_V T → (gr_rd r T).Pairwise gr_Q := by
  intro T
  induction T with
  | nil => intro r _; exact List.Pairwise.nil
  | cons R T ih =>
    intro r hV
    have h' : rs_S R ∧ tb_dom R (T.headD []) ∧ tb_V T := hV
    refine List.pairwise_append.mpr ⟨ih (r + 1) h'.2.2, gr_lab_pw R r 0 h'.1, fun p hp q hq => ?_⟩
    have g1 := gr_rd_row T (r + 1) p hp
    have g2 := gr_lab_mem R r 0 q hq
    refine ⟨fun z => by omega, fun z => ?_⟩
    obtain ⟨a, ha, hlt⟩ := gr_over T R (r + 1) p hV hp
    have h3 : R[q.2.2]? = some q.1 := g2.2.2
    rw [z, h3] at ha
    cases ha
    exact hlt
theorem gr_lab_row (R : List Nat) (r c i : Nat) : (gr_lab r c R).countP (fun e => decide (e.2.1 = i)) = if r = i then R.length else 0 := by
  induction R generalizing c with
  | nil => split <;> rfl
  | cons a R ih =>
    rw [gr_lab, List.countP_cons, ih]
    by_cases e : r = i
    · simp [e]
    · simp [e]
theorem gr_rd_rows : ∀ (T : List (List Nat)) (r i : Nat), (gr_rd r T).countP (fun e => decide (e.2.1 = r + i)) = sh_at (tb_sh T) i := by
  intro T
  induction T with
  | nil => intro r i; rfl
  | cons R T ih =>
    intro r i
    show (gr_rd (r + 1) T ++ gr_lab r 0 R).countP _ = _
    rw [List.countP_append, gr_lab_row]
    cases i with
    | zero =>
      rw [if_pos (by omega)]
      have h0 : (gr_rd (r + 1) T).countP (fun e => decide (e.2.1 = r + 0)) = 0 := by
        rw [List.countP_eq_zero]
        intro e he
        have := gr_rd_row T (r + 1) e he
        rw [decide_eq_true_eq]
        omega
      rw [h0, Nat.zero_add]; rfl
    | succ i =>
      rw [if_neg (by omega)]
      have e1 : r + (i + 1) = (r + 1) + i := by omega
      rw [e1, ih (r + 1) i]; rfl
def sh_col (l : List Nat) (j : Nat) : Nat := l.countP (fun a => decide (j < a))
theorem gr_lab_col (R : List Nat) (r c j : Nat) : (gr_lab r c R).countP (fun e => decide (e.2.2 = j)) = if c ≤ j ∧ j < c + R.length then 1 else 0 := by
  induction R generalizing c with
  | nil => rw [if_neg (by simp only [List.length_nil]; omega)]; rfl
  | cons a R ih =>
    rw [gr_lab, List.countP_cons, ih, List.length_cons]
    by_cases e : c = j
    · rw [if_neg (by omega), if_pos (by simp [e]), if_pos (by omega)]
    · rw [if_neg (c := decide _ = true) (by simp [e])]
      by_cases g : c + 1 ≤ j ∧ j < c + 1 + R.length
      · rw [if_pos g, if_pos (by omega)]
      · rw [if_neg g, if_neg (by omega)]
theorem gr_rd_cols : ∀ (T : List (List Nat)) (r j : Nat), (gr_rd r T).countP (fun e => decide (e.2.2 = j)) = sh_col (tb_sh T) j := by
  intro T
  induction T with
  | nil => intro r j; rfl
  | cons R T ih =>
    intro r j
    show (gr_rd (r + 1) T ++ gr_lab r 0 R).countP _ = _
    rw [List.countP_append, ih, gr_lab_col, tb_sh_cons, sh_col, sh_col, List.countP_cons]
    congr 1
    by_cases h : j < R.length
    · rw [if_pos (by omega), if_pos (by simp [h])]
    · rw [if_neg (by omega), if_neg (by simp; omega)]
theorem gr_rd_col7 : ∀ (T : List (List Nat)) (r : Nat) (e : Nat × Nat × Nat), e ∈ gr_rd r T → e.2.2 < (tb_rd T).length := by
  intro T
  induction T with
  | nil => intro r e h; cases h
  | cons R T ih =>
    intro r e h
    show e.2.2 < (tb_rd T ++ R).length
    rw [List.length_append]
    rcases List.mem_append.mp h with g | g
    · have := ih (r + 1) e g; omega
    · have := (gr_lab_mem R r 0 e g).2.2
      have := (List.getElem?_eq_some_iff.mp this).1
      omega
/-- the answer for k parts -/
def gr_ans (up : Bool) (k : Nat) (l : List Nat) : Nat := if up = true then sm_n k (sh_at l) else sm_n 7 (fun r => min k (sh_at l r))
def gr_chk (l : List Nat) : Bool := (List.range 4).all (fun k => decide (sm_n 7 (fun j => min k (sh_col l j)) = sm_n k (sh_at l)) && decide (sm_n 7 (fun j => if j < k then sh_col l j else 0) = sm_n 7 (fun r => min k (sh_at l r))) && decide (sm_n 7 (fun j => if j < k then sh_at l j else 0) = sm_n k (sh_at l)))
theorem gr_chk_all : ∀ l, l ∈ sh_all 7 7 7 → gr_chk l = true := by
  have h : (sh_all 7 7 7).all gr_chk = true := by decide +kernel
  exact List.all_eq_true.mp h
theorem gr_facts {l : List Nat} (h : l ∈ sh_all 7 7 7) {k : Nat} (hk : k ≤ 3) : sm_n 7 (fun j => min k (sh_col l j)) = sm_n k (sh_at l) ∧ sm_n 7 (fun j => if j < k then sh_col l j else 0) = sm_n 7 (fun r => min k (sh_at l r)) ∧ sm_n 7 (fun j => if j < k then sh_at l j else 0) = sm_n k (sh_at l) := by
  have h1 := List.all_eq_true.mp (gr_chk_all l h) k (List.mem_range.mpr (by omega))
  simp only [Bool.and_eq_true, decide_eq_true_eq] at h1
  exact ⟨h1.1.1, h1.1.2, h1.2⟩
/-- the reading word of a tableau: no k parts cover more, some cover as many -/
theorem gr_read {T : List (List Nat)} (hV : tb_V T) (h7 : T.length = 7) (hn : (tb_rd T).length ≤ 7) {k : Nat} (hk : k ≤ 3) (up : Bool) (m : Nat) :
    gr_has (gr_ok up) k m (tb_rd T) ↔ m ≤ gr_ans up k (tb_sh T) := by
  have hf := gr_facts (tb_sh_in hV h7 hn) hk
  have hrow : ∀ e, e ∈ gr_rd 0 T → e.2.1 < 7 := fun e he => by have := gr_rd_row T 0 e he; omega
  have hcol : ∀ e, e ∈ gr_rd 0 T → e.2.2 < 7 := fun e he => by have := gr_rd_col7 T 0 e he; omega
  have hpw := gr_rd_pw T 0 hV
  have rows : ∀ i, (gr_rd 0 T).countP (fun e => decide (e.2.1 = i)) = sh_at (tb_sh T) i := fun i => by
    have := gr_rd_rows T 0 i; rwa [Nat.zero_add] at this
  have cols : ∀ j, (gr_rd 0 T).countP (fun e => decide (e.2.2 = j)) = sh_col (tb_sh T) j := fun j => gr_rd_cols T 0 j
  constructor
  · rintro ⟨c, hc, hck, hcv, hm⟩
    refine Nat.le_trans hm ?_
    have hlen : c.length = (gr_rd 0 T).length := by
      have e := congrArg List.length hc
      have e2 := congrArg List.length (gr_rd_map T 0)
      rw [List.length_map] at e e2
      omega
    have z1 : (List.zip c (gr_rd 0 T)).map Prod.fst = c := List.map_fst_zip (by omega)
    have z2 : (List.zip c (gr_rd 0 T)).map Prod.snd = gr_rd 0 T := List.map_snd_zip (by omega)
    generalize hz : List.zip c (gr_rd 0 T) = z at z1 z2
    have hlet : ∀ e, e ∈ z → e.1.1 = e.2.1 := by
      have : z.map (fun e => e.1.1) = z.map (fun e => e.2.1) := by
        have e1 : z.map (fun e => e.1.1) = (z.map Prod.fst).map (fun p => p.1) := by rw [List.map_map]; rfl
        have e2 : z.map (fun e => e.2.1) = (z.map Prod.snd).map (fun p => p.1) := by rw [List.map_map]; rfl
        rw [e1, e2, z1, z2, hc, gr_rd_map]
      exact List.map_inj_left.mp this
    have p1 : z.Pairwise (fun a b => gr_R (gr_ok up) a.1 b.1) := by
      have h := hcv
      rw [gr_val, ← z1] at h
      exact List.pairwise_map.mp h
    have p2 : z.Pairwise (fun a b => gr_Q a.2 b.2) := by
      have h := hpw
      rw [← z2] at h
      exact List.pairwise_map.mp h
    have hcnt : gr_cnt c = z.countP (fun e => decide (e.1.2 ≠ 0)) := by
      rw [gr_cnt, ← z1, List.countP_map]; rfl
    have hzk : ∀ e, e ∈ z → e.1.2 ≤ k := fun e he => hck e.1 (by rw [← z1]; exact List.mem_map_of_mem he)
    have hz2 : ∀ e, e ∈ z → e.2 ∈ gr_rd 0 T := fun e he => by rw [← z2]; exact List.mem_map_of_mem he
    rw [hcnt]
    cases up
    · have hu := gr_upper 7 k (fun e : (Nat × Nat) × (Nat × Nat × Nat) => e.1.2) (fun e => e.2.2.1) z hzk (fun e he => hrow _ (hz2 e he)) (by
        refine List.Pairwise.imp_of_mem ?_ (p1.and p2)
        intro a b ha hb hab e1 e2 n
        have g := hab.1 e2 n
        rw [gr_ok_f, hlet a ha, hlet b hb] at g
        have := hab.2.1 e1
        omega)
      refine Nat.le_trans hu (Nat.le_of_eq ?_)
      show _ = sm_n 7 (fun r => min k (sh_at (tb_sh T) r))
      refine sm_eq 7 _ _ (fun j _ => ?_)
      rw [← rows j, ← z2, List.countP_map]; rfl
    · have hu := gr_upper 7 k (fun e : (Nat × Nat) × (Nat × Nat × Nat) => e.1.2) (fun e => e.2.2.2) z hzk (fun e he => hcol _ (hz2 e he)) (by
        refine List.Pairwise.imp_of_mem ?_ (p1.and p2)
        intro a b ha hb hab e1 e2 n
        have g := hab.1 e2 n
        rw [gr_ok_t, hlet a ha, hlet b hb] at g
        have := hab.2.2 e1
        omega)
      refine Nat.le_trans hu (Nat.le_of_eq ?_)
      show _ = sm_n k (sh_at (tb_sh T))
      rw [← hf.1]
      refine sm_eq 7 _ _ (fun j _ => ?_)
      rw [← cols j, ← z2, List.countP_map]; rfl
  · intro hm
    cases up
    · refine ⟨(gr_rd 0 T).map (fun e => (e.1, if e.2.2 < k then e.2.2 + 1 else 0)), ?_, ?_, ?_, ?_⟩
      · rw [List.map_map]; exact gr_rd_map T 0
      · intro p hp
        obtain ⟨e, _, rfl⟩ := List.mem_map.mp hp
        show (if e.2.2 < k then e.2.2 + 1 else 0) ≤ k
        split <;> omega
      · refine List.pairwise_map.mpr (List.Pairwise.imp ?_ hpw)
        intro a b hab e n
        have e' : (if a.2.2 < k then a.2.2 + 1 else 0) = (if b.2.2 < k then b.2.2 + 1 else 0) := e
        have n' : (if a.2.2 < k then a.2.2 + 1 else 0) ≠ 0 := n
        rw [gr_ok_f]
        refine hab.2 ?_
        split at e' <;> split at e' <;> simp_all
      · refine Nat.le_trans hm (Nat.le_of_eq ?_)
        show sm_n 7 (fun r => min k (sh_at (tb_sh T) r)) = _
        rw [← hf.2.1, gr_cnt, List.countP_map, ct_split 7 _ (fun e => e.2.2) (gr_rd 0 T) hcol]
        refine sm_eq 7 _ _ (fun j _ => ?_)
        by_cases h : j < k
        · rw [if_pos h, ← cols j]
          apply List.countP_congr
          intro e _
          show decide (e.2.2 = j) = true ↔ (decide ((if e.2.2 < k then e.2.2 + 1 else 0) ≠ 0) && decide (e.2.2 = j)) = true
          rw [Bool.and_eq_true, decide_eq_true_eq, decide_eq_true_eq]
          constructor
          · intro g; exact ⟨by rw [g, if_pos h]; omega, g⟩
          · intro g; exact g.2
        · rw [if_neg h, eq_comm, List.countP_eq_zero]
          intro e _
          show ¬ (decide ((if e.2.2 < k then e.2.2 + 1 else 0) ≠ 0) && decide (e.2.2 = j)) = true
          rw [Bool.and_eq_true, decide_eq_true_eq, decide_eq_true_eq]
          intro g
          rw [g.2, if_neg h] at g
          exact g.1 rfl
    · refine ⟨(gr_rd 0 T).map (fun e => (e.1, if e.2.1 < k then e.2.1 + 1 else 0)), ?_, ?_, ?_, ?_⟩
      · rw [List.map_map]; exact gr_rd_map T 0
      · intro p hp
        obtain ⟨e, _, rfl⟩ := List.mem_map.mp hp
        show (if e.2.1 < k then e.2.1 + 1 else 0) ≤ k
        split <;> omega
      · refine List.pairwise_map.mpr (List.Pairwise.imp ?_ hpw)
        intro a b hab e n
        have e' : (if a.2.1 < k then a.2.1 + 1 else 0) = (if b.2.1 < k then b.2.1 + 1 else 0) := e
        have n' : (if a.2.1 < k then a.2.1 + 1 else 0) ≠ 0 := n
        rw [gr_ok_t]
        refine hab.1 ?_
        split at e' <;> split at e' <;> simp_all
      · refine Nat.le_trans hm (Nat.le_of_eq ?_)
        show sm_n k (sh_at (tb_sh T)) = _
        rw [← hf.2.2, gr_cnt, List.countP_map, ct_split 7 _ (fun e => e.2.1) (gr_rd 0 T) hrow]
        refine sm_eq 7 _ _ (fun j _ => ?_)
        by_cases h : j < k
        · rw [if_pos h, ← rows j]
          apply List.countP_congr
          intro e _
          show decide (e.2.1 = j) = true ↔ (decide ((if e.2.1 < k then e.2.1 + 1 else 0) ≠ 0) && decide (e.2.1 = j)) = true
          rw [Bool.and_eq_true, decide_eq_true_eq, decide_eq_true_eq]
          constructor
          · intro g; exact ⟨by rw [g, if_pos h]; omega, g⟩
          · intro g; exact g.2
        · rw [if_neg h, eq_comm, List.countP_eq_zero]
          intro e _
          show ¬ (decide ((if e.2.1 < k then e.2.1 + 1 else 0) ≠ 0) && decide (e.2.1 = j)) = true
          rw [Bool.and_eq_true, decide_eq_true_eq, decide_eq_true_eq]
          intro g
          rw [g.2, if_neg h] at g
          exact g.1 rfl
/-- k parts of a word -/
theorem gr_word {w : List Nat} (hw : w.length ≤ 7) {k : Nat} (hk : k ≤ 3) (up : Bool) (m : Nat) : gr_has (gr_ok up) k m w ↔ m ≤ gr_ans up k (tb_sh (tb_W w)) := by
  have h := tb_W_rd w hw
  rw [← gr_read (tb_W_V w) (tb_W_len w) (by rw [h.1]; exact hw) hk up m]
  exact ⟨fun g => gr_kn g h.2, fun g => gr_kn g (kn_symm h.2)⟩
end
section
/-! codes of words, exchanges by their places, classes -/
def wd_cd (w : List Nat) : Nat := w.foldl (fun c x => 8 * c + x) 0
theorem wd_nil : wd_cd [] = 0 := rfl
theorem wd_snoc (w : List Nat) (x : Nat) : wd_cd (w ++ [x]) = 8 * wd_cd w + x := by
  unfold wd_cd; rw [List.foldl_append]; rfl
def wd_ok (w : List Nat) : Prop := ∀ x, x ∈ w → 1 ≤ x ∧ x < 8
theorem wd_ok_perm {u v : List Nat} (h : v.Perm u) (hu : wd_ok u) : wd_ok v := fun x hx => hu x (h.mem_iff.mp hx)
theorem wd_inj (w : List Nat) : ∀ v : List Nat, w.length = v.length → wd_ok w → wd_ok v → wd_cd w = wd_cd v → w = v := by
  induction w using ls_snoc with
  | h0 => intro v h _ _ _; exact (List.eq_nil_of_length_eq_zero h.symm).symm
  | hs w x ih =>
    intro v h hw hv e
    rw [List.length_append] at h
    obtain ⟨v', y, rfl, hl⟩ := ls_split (w := v) (n := w.length) h.symm
    rw [wd_snoc, wd_snoc] at e
    have hx := hw x (by simp)
    have hy := hv y (by simp)
    have e1 : x = y := by omega
    have e2 : wd_cd w = wd_cd v' := by omega
    rw [e1, ih v' hl.symm (fun z hz => hw z (by simp [hz])) (fun z hz => hv z (by simp [hz])) e2]
theorem wd_lt (w : List Nat) : (∀ x, x ∈ w → x < 8) → wd_cd w < 8 ^ w.length := by
  induction w using ls_snoc with
  | h0 => intro _; decide
  | hs w x ih =>
    intro h
    have h1 := ih (fun y hy => h y (by simp [hy]))
    have h2 := h x (by simp)
    rw [wd_snoc, List.length_append]
    show _ < 8 ^ (w.length + 1)
    rw [Nat.pow_succ]
    omega
theorem wd_lt7 {w : List Nat} (h : wd_ok w) (hl : w.length ≤ 7) : wd_cd w < 2097152 := by
  have h1 := wd_lt w (fun x hx => (h x hx).2)
  have h2 : 8 ^ w.length ≤ 8 ^ 7 := Nat.pow_le_pow_right (by decide) hl
  have h3 : (8 : Nat) ^ 7 = 2097152 := by decide
  omega
/-- letters in the places i and i + 1 exchanged -/
def mv_sw : List Nat → Nat → List Nat
  | [], _ => []
  | [a], _ => [a]
  | a :: b :: l, 0 => b :: a :: l
  | a :: b :: l, i + 1 => a :: mv_sw (b :: l) i
theorem mv_sw_app : ∀ (a : List Nat) (p q : Nat) (b : List Nat), mv_sw (a ++ (p :: q :: b)) a.length = a ++ (q :: p :: b) := by
  intro a
  induction a with
  | nil => intro p q b; rfl
  | cons x a ih =>
    intro p q b
    have h := ih p q b
    cases a with
    | nil => rfl
    | cons y a =>
      show x :: mv_sw (y :: (a ++ (p :: q :: b))) (a.length + 1) = _
      show x :: mv_sw ((y :: a) ++ (p :: q :: b)) (y :: a).length = _
      rw [h]; rfl
/-- a word cut before place j -/
theorem ls_cut {w : List Nat} {j : Nat} (h : j < w.length) : ∃ b, w.drop j = w.getD j 0 :: b ∧ b = w.drop (j + 1) := by
  refine ⟨w.drop (j + 1), ?_, rfl⟩
  rw [List.drop_eq_getElem_cons h]
  congr 1
  rw [List.getD_eq_getElem?_getD, List.getElem?_eq_getElem h]; rfl
theorem ls_cut2 {w : List Nat} {j : Nat} (h : j + 1 < w.length) : w = w.take j ++ (w.getD j 0 :: w.getD (j + 1) 0 :: w.drop (j + 2)) := by
  obtain ⟨b, h1, h2⟩ := ls_cut (w := w) (j := j) (by omega)
  obtain ⟨b', h3, h4⟩ := ls_cut h
  conv => lhs; rw [← List.take_append_drop j w]
  rw [h1, h2, h3, h4]
theorem ls_cut3 {w : List Nat} {j : Nat} (h : j + 2 < w.length) : w = w.take j ++ ([w.getD j 0, w.getD (j + 1) 0, w.getD (j + 2) 0] ++ w.drop (j + 3)) := by
  obtain ⟨b, h1, h2⟩ := ls_cut h
  conv => lhs; rw [ls_cut2 (w := w) (j := j) (by omega), h1, h2]
  rfl
theorem mv_sw_cut {w : List Nat} {i : Nat} (h : i + 1 < w.length) : mv_sw w i = w.take i ++ (w.getD (i + 1) 0 :: w.getD i 0 :: w.drop (i + 2)) := by
  have e : (w.take i).length = i := by rw [List.length_take]; omega
  have h1 := mv_sw_app (w.take i) (w.getD i 0) (w.getD (i + 1) 0) (w.drop (i + 2))
  rw [← ls_cut2 h, e] at h1
  exact h1
theorem mv_sw_len (w : List Nat) {i : Nat} (h : i + 1 < w.length) : (mv_sw w i).length = w.length := by
  rw [mv_sw_cut h, List.length_append, List.length_take, List.length_cons, List.length_cons, List.length_drop]; omega
theorem ls_getD_app (a l : List Nat) (k : Nat) : (a ++ l).getD (a.length + k) 0 = l.getD k 0 := by
  rw [List.getD_eq_getElem?_getD, List.getD_eq_getElem?_getD, List.getElem?_append_right (by omega)]
  congr 2
  omega
theorem ls_getD_lo {a l : List Nat} {k : Nat} (h : k < a.length) : (a ++ l).getD k 0 = a.getD k 0 := by
  rw [List.getD_eq_getElem?_getD, List.getD_eq_getElem?_getD, List.getElem?_append_left h]
theorem ls_getD_take {w : List Nat} {i j : Nat} (h : j < i) : (w.take i).getD j 0 = w.getD j 0 := by
  rw [List.getD_eq_getElem?_getD, List.getD_eq_getElem?_getD, List.getElem?_take_of_lt h]
theorem mv_sw_get (w : List Nat) {i : Nat} (h : i + 1 < w.length) (j : Nat) : (mv_sw w i).getD j 0 = if j = i then w.getD (i + 1) 0 else if j = i + 1 then w.getD i 0 else w.getD j 0 := by
  have e : (w.take i).length = i := by rw [List.length_take]; omega
  rw [mv_sw_cut h]
  by_cases c : j < i
  · rw [ls_getD_lo (by omega), ls_getD_take c, if_neg (by omega), if_neg (by omega)]
  · obtain ⟨k, rfl⟩ : ∃ k, j = (w.take i).length + k := ⟨j - i, by omega⟩
    rw [ls_getD_app, e]
    match k with
    | 0 => rw [if_pos (by omega)]; rfl
    | 1 => rw [if_neg (by omega), if_pos rfl]; rfl
    | k + 2 =>
      rw [if_neg (by omega), if_neg (by omega)]
      show (w.drop (i + 2)).getD k 0 = _
      rw [List.getD_eq_getElem?_getD, List.getD_eq_getElem?_getD, List.getElem?_drop]
      congr 2
      omega
/-- whether the letters in places i and i + 1 may be exchanged -/
def mv_lo (w : List Nat) (i : Nat) : Nat := if w.getD i 0 < w.getD (i + 1) 0 then w.getD i 0 else w.getD (i + 1) 0
def mv_hi (w : List Nat) (i : Nat) : Nat := if w.getD i 0 < w.getD (i + 1) 0 then w.getD (i + 1) 0 else w.getD i 0
def mv_ok (w : List Nat) (i : Nat) : Prop := mv_lo w i < mv_hi w i ∧
  ((0 < i ∧ mv_lo w i < w.getD (i - 1) 0 ∧ w.getD (i - 1) 0 ≤ mv_hi w i) ∨ (i + 2 < w.length ∧ mv_lo w i ≤ w.getD (i + 2) 0 ∧ w.getD (i + 2) 0 < mv_hi w i))
theorem mv_step {w : List Nat} {i : Nat} (h : i + 1 < w.length) (hm : mv_ok w i) : kn_step w (mv_sw w i) := by
  obtain ⟨hlt, hm⟩ := hm
  unfold mv_lo mv_hi at hlt hm
  rcases hm with ⟨h0, h1, h2⟩ | ⟨h0, h1, h2⟩
  · obtain ⟨j, rfl⟩ : ∃ j, i = j + 1 := ⟨i - 1, by omega⟩
    have e0 : j + 1 - 1 = j := by omega
    rw [e0] at h1 h2
    have ec := ls_cut3 (w := w) (j := j) (by omega)
    have e : (w.take j ++ [w.getD j 0]).length = j + 1 := by rw [List.length_append, List.length_take]; simp; omega
    have es : mv_sw w (j + 1) = w.take j ++ ([w.getD j 0, w.getD (j + 2) 0, w.getD (j + 1) 0] ++ w.drop (j + 3)) := by
      have g := mv_sw_app (w.take j ++ [w.getD j 0]) (w.getD (j + 1) 0) (w.getD (j + 2) 0) (w.drop (j + 3))
      rw [e] at g
      have g1 : w.take j ++ [w.getD j 0] ++ (w.getD (j + 1) 0 :: w.getD (j + 2) 0 :: w.drop (j + 3)) = w := by
        conv => rhs; rw [ec]
        simp
      rw [g1] at g
      rw [g]; simp
    refine ⟨w.take j, _, _, w.drop (j + 3), ?_, ec, es⟩
    have e2 : j + 1 + 1 = j + 2 := rfl
    rw [e2] at hlt h1 h2
    by_cases c : w.getD (j + 1) 0 < w.getD (j + 2) 0
    · rw [if_pos c, if_pos c] at hlt
      rw [if_pos c] at h1 h2
      exact ⟨w.getD (j + 1) 0, w.getD j 0, w.getD (j + 2) 0, Or.inr ⟨h1, h2, Or.inl ⟨rfl, rfl⟩⟩⟩
    · rw [if_neg c, if_neg c] at hlt
      rw [if_neg c] at h1 h2
      exact ⟨w.getD (j + 2) 0, w.getD j 0, w.getD (j + 1) 0, Or.inr ⟨h1, h2, Or.inr ⟨rfl, rfl⟩⟩⟩
  · have ec := ls_cut3 (w := w) (j := i) h0
    have e : (w.take i).length = i := by rw [List.length_take]; omega
    have es : mv_sw w i = w.take i ++ ([w.getD (i + 1) 0, w.getD i 0, w.getD (i + 2) 0] ++ w.drop (i + 3)) := by
      have g := mv_sw_app (w.take i) (w.getD i 0) (w.getD (i + 1) 0) (w.getD (i + 2) 0 :: w.drop (i + 3))
      rw [e] at g
      have g1 : w.take i ++ (w.getD i 0 :: w.getD (i + 1) 0 :: w.getD (i + 2) 0 :: w.drop (i + 3)) = w := by
        conv => rhs; rw [ec]
        rfl
      rw [g1] at g
      rw [g]; rfl
    refine ⟨w.take i, _, _, w.drop (i + 3), ?_, ec, es⟩
    by_cases c : w.getD i 0 < w.getD (i + 1) 0
    · rw [if_pos c, if_pos c] at hlt
      rw [if_pos c] at h1 h2
      exact ⟨w.getD i 0, w.getD (i + 2) 0, w.getD (i + 1) 0, Or.inl ⟨h1, h2, Or.inl ⟨rfl, rfl⟩⟩⟩
    · rw [if_neg c, if_neg c] at hlt
      rw [if_neg c] at h1 h2
      exact ⟨w.getD (i + 1) 0, w.getD (i + 2) 0, w.getD i 0, Or.inl ⟨h1, h2, Or.inr ⟨rfl, rfl⟩⟩⟩
theorem mv_of_step {w w' : List Nat} (h : kn_step w w') : ∃ i, i + 1 < w.length ∧ mv_ok w i ∧ w' = mv_sw w i := by
  obtain ⟨a, u, v, b, ht, e, e'⟩ := h
  have get : ∀ (p q s : Nat) (k : Nat), (a ++ ([p, q, s] ++ b)).getD (a.length + k) 0 = ([p, q, s] ++ b).getD k 0 := fun p q s k => ls_getD_app _ _ _
  have len : ∀ (p q s : Nat), (a ++ ([p, q, s] ++ b)).length = a.length + 3 + b.length := fun p q s => by
    rw [List.length_append, List.length_append]; simp; omega
  have behind : ∀ x y z p q : Nat, x ≤ y → y < z → ((p = x ∧ q = z) ∨ (p = z ∧ q = x)) → w = a ++ ([p, q, y] ++ b) → w' = a ++ ([q, p, y] ++ b) → ∃ i, i + 1 < w.length ∧ mv_ok w i ∧ w' = mv_sw w i := by
    intro x y z p q h1 h2 hpq ew ew'
    have g0 : w.getD a.length 0 = p := by rw [ew]; exact get p q y 0
    have g1 : w.getD (a.length + 1) 0 = q := by rw [ew]; exact get p q y 1
    have g2 : w.getD (a.length + 2) 0 = y := by rw [ew]; exact get p q y 2
    have gl : w.length = a.length + 3 + b.length := by rw [ew]; exact len p q y
    refine ⟨a.length, by omega, ?_, ?_⟩
    · have hlo : mv_lo w a.length = x := by unfold mv_lo; rw [g0, g1]; rcases hpq with ⟨rfl, rfl⟩ | ⟨rfl, rfl⟩ <;> split <;> omega
      have hhi : mv_hi w a.length = z := by unfold mv_hi; rw [g0, g1]; rcases hpq with ⟨rfl, rfl⟩ | ⟨rfl, rfl⟩ <;> split <;> omega
      unfold mv_ok
      rw [hlo, hhi, g2]
      exact ⟨by omega, Or.inr ⟨by omega, h1, h2⟩⟩
    · rw [ew, ew']; exact (mv_sw_app a p q (y :: b)).symm
  have before : ∀ x y z p q : Nat, x < y → y ≤ z → ((p = x ∧ q = z) ∨ (p = z ∧ q = x)) → w = a ++ ([y, p, q] ++ b) → w' = a ++ ([y, q, p] ++ b) → ∃ i, i + 1 < w.length ∧ mv_ok w i ∧ w' = mv_sw w i := by
    intro x y z p q h1 h2 hpq ew ew'
    have g0 : w.getD a.length 0 = y := by rw [ew]; exact get y p q 0
    have g1 : w.getD (a.length + 1) 0 = p := by rw [ew]; exact get y p q 1
    have g2 : w.getD (a.length + 1 + 1) 0 = q := by rw [ew]; exact get y p q 2
    have gl : w.length = a.length + 3 + b.length := by rw [ew]; exact len y p q
    refine ⟨a.length + 1, by omega, ?_, ?_⟩
    · have hlo : mv_lo w (a.length + 1) = x := by unfold mv_lo; rw [g1, g2]; rcases hpq with ⟨rfl, rfl⟩ | ⟨rfl, rfl⟩ <;> split <;> omega
      have hhi : mv_hi w (a.length + 1) = z := by unfold mv_hi; rw [g1, g2]; rcases hpq with ⟨rfl, rfl⟩ | ⟨rfl, rfl⟩ <;> split <;> omega
      unfold mv_ok
      rw [hlo, hhi, Nat.add_sub_cancel, g0]
      exact ⟨by omega, Or.inl ⟨by omega, h1, h2⟩⟩
    · have g := mv_sw_app (a ++ [y]) p q b
      rw [List.length_append] at g
      have e1 : a ++ [y] ++ (p :: q :: b) = w := by rw [ew]; simp
      have e2 : a ++ [y] ++ (q :: p :: b) = w' := by rw [ew']; simp
      rw [e1, e2] at g
      exact g.symm
  obtain ⟨x, y, z, ht⟩ := ht
  rcases ht with ⟨l1, l2, ⟨rfl, rfl⟩ | ⟨rfl, rfl⟩⟩ | ⟨l1, l2, ⟨rfl, rfl⟩ | ⟨rfl, rfl⟩⟩
  · exact behind x y z x z l1 l2 (Or.inl ⟨rfl, rfl⟩) e e'
  · exact behind x y z z x l1 l2 (Or.inr ⟨rfl, rfl⟩) e e'
  · exact before x y z x z l1 l2 (Or.inl ⟨rfl, rfl⟩) e e'
  · exact before x y z z x l1 l2 (Or.inr ⟨rfl, rfl⟩) e e'
/-- all words with the rows of w -/
def wd_E (w : List Nat) : List (List Nat) := tb_E w.length (tb_W w)
theorem wd_E_mem {w : List Nat} (h : w.length ≤ 7) (v : List Nat) : v ∈ wd_E w ↔ kn_eq w v := by
  unfold wd_E
  rw [tb_E_mem w.length (tb_W w) v (tb_W_V w) (tb_W_len w) (tb_W_rd w h).1 h]
  constructor
  · intro g; exact tb_W_kn h (by omega) g.1.symm
  · intro g; exact ⟨(tb_W_eq g).symm, (kn_perm g).length_eq⟩
theorem wd_E_nodup {w : List Nat} (h : w.length ≤ 7) : (wd_E w).Nodup :=
  tb_E_nodup w.length (tb_W w) (tb_W_V w) (tb_W_len w) (tb_W_rd w h).1 h
theorem wd_sh {w : List Nat} (h : w.length ≤ 7) : tb_sh (tb_W w) ∈ sh_all 7 7 7 :=
  tb_sh_in (tb_W_V w) (tb_W_len w) (by rw [(tb_W_rd w h).1]; exact h)
theorem wd_sum {w : List Nat} (h : w.length ≤ 7) : (tb_sh (tb_W w)).sum = w.length := by
  rw [tb_sh_sum, (tb_W_rd w h).1]
theorem wd_E_len {w : List Nat} (h : w.length ≤ 7) : (wd_E w).length = sh_f w.length (tb_sh (tb_W w)) := tb_E_len _ _
theorem wd_E_35 {w : List Nat} (h : w.length ≤ 7) : (wd_E w).length ≤ 35 := by
  have := (sh_facts (wd_sh h)).1
  rw [wd_sum h] at this
  rw [wd_E_len h]; exact this
/-- a list of words that holds w and is closed under exchanges holds the whole component -/
theorem wd_closed {w : List Nat} (C : List (List Nat)) (h0 : w ∈ C) (hc : ∀ v, v ∈ C → ∀ i, i + 1 < v.length → mv_ok v i → mv_sw v i ∈ C) {v : List Nat} (h : kn_eq w v) : v ∈ C := by
  refine h (fun t => t ∈ C) (fun p q hp hpq => ?_) h0
  obtain ⟨i, hi, hm, e⟩ := mv_of_step hpq
  rw [e]; exact hc p hp i hi hm
theorem wd_bound {w : List Nat} (h : w.length ≤ 7) (C : List (List Nat)) (hn : C.Nodup) (hk : ∀ v, v ∈ C → kn_eq w v) : C.length ≤ 35 :=
  Nat.le_trans (hn.length_le_of_subset (fun v hv => (wd_E_mem h v).mpr (hk v hv))) (wd_E_35 h)
theorem wd_full {w : List Nat} (h : w.length ≤ 7) (C : List (List Nat)) (hn : C.Nodup) (hk : ∀ v, v ∈ C ↔ kn_eq w v) : C.Perm (wd_E w) :=
  (List.perm_ext_iff_of_nodup hn (wd_E_nodup h)).mpr (fun v => by rw [hk, wd_E_mem h])
theorem mv_kn {w : List Nat} {i : Nat} (h : i + 1 < w.length) (hm : mv_ok w i) : kn_eq w (mv_sw w i) := kn_of (mv_step h hm)
/-! ranks in sorted lists -/
abbrev so_S (L : List Nat) : Prop := L.Pairwise (fun a b => a ≤ b)
def so_rk (L : List Nat) (c : Nat) : Nat := L.countP (fun a => decide (a < c))
theorem so_rk_at : ∀ (L : List Nat) (n : Nat), L.Pairwise (fun a b => a < b) → n < L.length → so_rk L (L.getD n 0) = n := by
  intro L
  induction L with
  | nil => intro n _ h; exact absurd h (Nat.not_lt_zero _)
  | cons a L ih =>
    intro n hs hn
    have hp := List.pairwise_cons.mp hs
    unfold so_rk
    rw [List.countP_cons]
    cases n with
    | zero =>
      have h0 : L.countP (fun b => decide (b < a)) = 0 := by
        rw [List.countP_eq_zero]
        intro b hb
        have := hp.1 b hb
        rw [decide_eq_true_eq]; omega
      show L.countP (fun b => decide (b < a)) + (if decide (a < a) = true then 1 else 0) = 0
      rw [h0, if_neg (by simp)]
    | succ n =>
      have hn' : n < L.length := Nat.lt_of_succ_lt_succ hn
      have hm : L.getD n 0 ∈ L := by
        rw [List.getD_eq_getElem?_getD, List.getElem?_eq_getElem hn']
        exact List.getElem_mem hn'
      have g := hp.1 _ hm
      have hi : L.countP (fun b => decide (b < L.getD n 0)) = n := ih n hp.2 hn'
      show L.countP (fun b => decide (b < L.getD n 0)) + (if decide (a < L.getD n 0) = true then 1 else 0) = n + 1
      rw [hi, if_pos (by simpa using g)]
theorem so_strict {L : List Nat} (hs : so_S L) (hn : L.Nodup) : L.Pairwise (fun a b => a < b) := by
  refine List.Pairwise.imp ?_ (hs.and hn)
  intro a b h
  have := h.1
  have := h.2
  omega
/-- in a list with the same numbers, the one that has n below it is the n-th -/
theorem so_find {L C : List Nat} (hs : so_S L) (hp : C.Perm L) (hn : L.Nodup) {c : Nat} (hc : c ∈ C) : so_rk C c < L.length ∧ L.getD (so_rk C c) 0 = c := by
  have hr : so_rk C c = so_rk L c := hp.countP_eq _
  have hm : c ∈ L := hp.mem_iff.mp hc
  obtain ⟨k, hk, e⟩ := List.mem_iff_getElem.mp hm
  have e2 : L.getD k 0 = c := by
    rw [List.getD_eq_getElem?_getD, List.getElem?_eq_getElem hk]; exact e
  have h1 := so_rk_at L k (so_strict hs hn) hk
  rw [e2] at h1
  rw [hr, h1]
  exact ⟨hk, e2⟩
end
section
/-! sets of places as naturals; covers by parts -/
def st_part (up : Bool) (w : List Nat) (s : Nat) : Prop := ∀ i j, i < j → j < w.length → s.testBit i = true → s.testBit j = true → gr_ok up (w.getD i 0) (w.getD j 0)
def st_sub (s p : Nat) : Nat := s &&& (p ^^^ (2 ^ 32 - 1))
def st_cov (up : Bool) (w : List Nat) : Nat → Nat → Prop
  | 0, s => s = 0
  | k + 1, s => st_cov up w k s ∨ ∃ p, p ≠ 0 ∧ p &&& s = p ∧ st_part up w p ∧ st_cov up w k (st_sub s p)
theorem st_hi {s n i : Nat} (h : s < 2 ^ n) (hi : n ≤ i) : s.testBit i = false :=
  Nat.testBit_lt_two_pow (Nat.lt_of_lt_of_le h (Nat.pow_le_pow_right (by decide) hi))
theorem st_sub_bit {s : Nat} (h : s < 128) (p i : Nat) : (st_sub s p).testBit i = (s.testBit i && !(p.testBit i)) := by
  unfold st_sub
  rw [Nat.testBit_and, Nat.testBit_xor, Nat.testBit_two_pow_sub_one]
  by_cases c : i < 32
  · rw [decide_eq_true c]; cases p.testBit i <;> rfl
  · rw [st_hi (n := 7) h (by omega)]; rfl
theorem st_sub_le (s p : Nat) : st_sub s p ≤ s := Nat.and_le_left
theorem st_bit_of {p s i : Nat} (h : p &&& s = p) (hi : p.testBit i = true) : s.testBit i = true := by
  have := congrArg (fun x => Nat.testBit x i) h
  simp only [Nat.testBit_and, hi, Bool.true_and] at this
  exact this
theorem st_sub_lt {s p : Nat} (hs : s < 128) (h0 : p ≠ 0) (h : p &&& s = p) : st_sub s p < s := by
  refine Nat.lt_of_le_of_ne (st_sub_le s p) (fun e => ?_)
  obtain ⟨i, hi⟩ := Nat.exists_testBit_of_ne_zero h0
  have h1 := st_bit_of h hi
  have h2 := st_sub_bit hs p i
  rw [e, h1, hi] at h2
  cases h2
theorem st_cov_0 (up : Bool) (w : List Nat) : ∀ k, st_cov up w k 0 := by
  intro k
  induction k with
  | zero => rfl
  | succ k ih => exact Or.inl ih
theorem st_cov_mono {up : Bool} {w : List Nat} {k s : Nat} (h : st_cov up w k s) : st_cov up w (k + 1) s := Or.inl h
theorem st_cov_iff {up : Bool} {w : List Nat} : ∀ (k s : Nat), s ≠ 0 → (st_cov up w (k + 1) s ↔ ∃ p, p ≠ 0 ∧ p &&& s = p ∧ st_part up w p ∧ st_cov up w k (st_sub s p)) := by
  intro k
  induction k with
  | zero =>
    intro s h
    constructor
    · rintro (e | e)
      · exact absurd e h
      · exact e
    · intro e; exact Or.inr e
  | succ k ih =>
    intro s h
    constructor
    · rintro (e | e)
      · obtain ⟨p, a, b, c, d⟩ := (ih s h).mp e
        exact ⟨p, a, b, c, Or.inl d⟩
      · exact e
    · intro e; exact Or.inr e
def st_col (up : Bool) (w : List Nat) (k s : Nat) (κ : Nat → Nat) : Prop :=
  (∀ i, i < w.length → (κ i ≠ 0 ↔ s.testBit i = true)) ∧ (∀ i, κ i ≤ k) ∧ (∀ i j, i < j → j < w.length → κ i = κ j → κ i ≠ 0 → gr_ok up (w.getD i 0) (w.getD j 0))
theorem st_cov_col {up : Bool} {w : List Nat} : ∀ (k s : Nat), s < 128 → st_cov up w k s → ∃ κ, st_col up w k s κ := by
  intro k
  induction k with
  | zero =>
    intro s _ h
    have h' : s = 0 := h
    subst h'
    refine ⟨fun _ => 0, fun i _ => ?_, fun _ => Nat.le_refl _, fun i j _ _ _ n => absurd rfl n⟩
    rw [Nat.zero_testBit]
    exact ⟨fun n => absurd rfl n, fun n => (by cases n)⟩
  | succ k ih =>
    intro s hs h
    rcases h with h | ⟨p, h0, h1, h2, h3⟩
    · obtain ⟨κ, a, b, c⟩ := ih s hs h
      exact ⟨κ, a, fun i => Nat.le_succ_of_le (b i), c⟩
    · obtain ⟨κ, a, b, c⟩ := ih _ (Nat.lt_of_le_of_lt (st_sub_le s p) hs) h3
      refine ⟨fun i => if p.testBit i = true then k + 1 else κ i, fun i hi => ?_, fun i => ?_, fun i j hij hj e n => ?_⟩
      · have ai := a i hi
        rw [st_sub_bit hs] at ai
        by_cases g : p.testBit i = true
        · simp only [g, if_true]
          exact ⟨fun _ => st_bit_of h1 g, fun _ => by omega⟩
        · have g' : p.testBit i = false := by simpa using g
          simp only [g', Bool.false_eq_true, if_false]
          rw [ai, g']; simp
      · show (if p.testBit i = true then k + 1 else κ i) ≤ k + 1
        have := b i
        split <;> omega
      · have e' : (if p.testBit i = true then k + 1 else κ i) = (if p.testBit j = true then k + 1 else κ j) := e
        have n' : (if p.testBit i = true then k + 1 else κ i) ≠ 0 := n
        have bi := b i
        have bj := b j
        by_cases g : p.testBit i = true
        · by_cases g2 : p.testBit j = true
          · exact h2 i j hij hj g g2
          · rw [if_pos g, if_neg g2] at e'; omega
        · by_cases g2 : p.testBit j = true
          · rw [if_neg g, if_pos g2] at e'; omega
          · rw [if_neg g, if_neg g2] at e'
            rw [if_neg g] at n'
            exact c i j hij hj e' n'
def st_mask : Nat → (Nat → Bool) → Nat
  | 0, _ => 0
  | n + 1, f => if f n = true then 2 ^ n + st_mask n f else st_mask n f
theorem st_mask_lt : ∀ (n : Nat) (f : Nat → Bool), st_mask n f < 2 ^ n := by
  intro n
  induction n with
  | zero => intro f; exact Nat.zero_lt_one
  | succ n ih =>
    intro f
    have := ih f
    have e : 2 ^ (n + 1) = 2 ^ n + 2 ^ n := by rw [Nat.pow_succ]; omega
    rw [st_mask]
    split <;> omega
theorem st_mask_bit : ∀ (n : Nat) (f : Nat → Bool) (i : Nat), i < n → (st_mask n f).testBit i = f i := by
  intro n
  induction n with
  | zero => intro f i h; exact absurd h (Nat.not_lt_zero _)
  | succ n ih =>
    intro f i h
    rw [st_mask]
    by_cases c : i = n
    · subst c
      have z := st_hi (st_mask_lt i f) (Nat.le_refl i)
      by_cases g : f i = true
      · rw [if_pos g, Nat.testBit_two_pow_add_eq, z, g]; rfl
      · rw [if_neg g, z]; simpa using g
    · have hi : i < n := by omega
      by_cases g : f n = true
      · rw [if_pos g, Nat.testBit_two_pow_add_gt hi, ih f i hi]
      · rw [if_neg g, ih f i hi]
theorem st_col_cov {up : Bool} {w : List Nat} (hw : w.length ≤ 7) : ∀ (k s : Nat) (κ : Nat → Nat), s < 2 ^ w.length → st_col up w k s κ → st_cov up w k s := by
  have p7 : 2 ^ w.length ≤ 128 := (Nat.pow_le_pow_right (by decide) hw : 2 ^ w.length ≤ 2 ^ 7)
  intro k
  induction k with
  | zero =>
    intro s κ hs h
    show s = 0
    refine Nat.eq_of_testBit_eq (fun i => ?_)
    rw [Nat.zero_testBit]
    by_cases c : i < w.length
    · have h1 := h.1 i c
      have h2 := h.2.1 i
      cases hb : s.testBit i with
      | false => rfl
      | true => exact absurd (h1.mpr hb) (by omega)
    · exact st_hi hs (by omega)
  | succ k ih =>
    intro s κ hs h
    obtain ⟨a, b, c⟩ := h
    have col' : ∀ t, (∀ i, i < w.length → (t.testBit i = true ↔ (s.testBit i = true ∧ κ i ≠ k + 1))) → st_col up w k t (fun i => if κ i = k + 1 then 0 else κ i) := by
      intro t ht
      refine ⟨fun i hi => ?_, fun i => ?_, fun i j hij hj e n => ?_⟩
      · rw [ht i hi, ← a i hi]
        show (if κ i = k + 1 then 0 else κ i) ≠ 0 ↔ _
        split <;> omega
      · show (if κ i = k + 1 then 0 else κ i) ≤ k
        have := b i
        split <;> omega
      · have e' : (if κ i = k + 1 then 0 else κ i) = (if κ j = k + 1 then 0 else κ j) := e
        have n' : (if κ i = k + 1 then 0 else κ i) ≠ 0 := n
        have hi' : κ i ≠ k + 1 := fun z => n' (if_pos z)
        rw [if_neg hi'] at e' n'
        by_cases hj' : κ j = k + 1
        · rw [if_pos hj'] at e'; exact absurd e' n'
        · rw [if_neg hj'] at e'; exact c i j hij hj e' n'
    have hb := fun i (hi : i < w.length) => st_mask_bit w.length (fun i => decide (κ i = k + 1)) i hi
    have hlt := st_mask_lt w.length (fun i => decide (κ i = k + 1))
    generalize st_mask w.length (fun i => decide (κ i = k + 1)) = p at hb hlt
    have hbt : ∀ i, i < w.length → (p.testBit i = true ↔ κ i = k + 1) := fun i hi => by rw [hb i hi, decide_eq_true_eq]
    by_cases hp : p = 0
    · refine Or.inl (ih s _ hs (col' s (fun i hi => ?_)))
      have h1 := hbt i hi
      rw [hp, Nat.zero_testBit] at h1
      constructor
      · intro g; exact ⟨g, fun z => by have := h1.mpr z; cases this⟩
      · intro g; exact g.1
    · have hps : p &&& s = p := by
        refine Nat.eq_of_testBit_eq (fun i => ?_)
        rw [Nat.testBit_and]
        by_cases g : i < w.length
        · cases hb' : p.testBit i with
          | false => rfl
          | true =>
            have h1 := (hbt i g).mp hb'
            have h2 := (a i g).mp (by omega)
            rw [h2]; rfl
        · rw [st_hi hlt (by omega)]; rfl
      refine Or.inr ⟨p, hp, hps, fun i j hij hj hi' hj' => ?_, ih _ _ (Nat.lt_of_le_of_lt (st_sub_le s p) hs) (col' _ (fun i hi => ?_))⟩
      · have e1 := (hbt i (by omega)).mp hi'
        have e2 := (hbt j hj).mp hj'
        exact c i j hij hj (e1.trans e2.symm) (by omega)
      · rw [st_sub_bit (by omega)]
        have h1 := hbt i hi
        cases hb' : p.testBit i with
        | false =>
          rw [hb'] at h1
          have h2 : κ i ≠ k + 1 := fun z => by have := h1.mpr z; cases this
          simp [h2]
        | true =>
          rw [hb'] at h1
          have h2 := h1.mp rfl
          simp [h2]
def st_sz (s : Nat) : Nat := sm_n 7 (fun i => if s.testBit i = true then 1 else 0)
theorem st_range_cnt : ∀ (n : Nat) (f : Nat → Bool), (List.range n).countP f = sm_n n (fun i => if f i = true then 1 else 0) := by
  intro n
  induction n with
  | zero => intro f; rfl
  | succ n ih =>
    intro f
    rw [List.range_succ, List.countP_append, ih]
    show _ + (List.countP f [n]) = sm_n n _ + _
    rw [List.countP_cons, List.countP_nil, Nat.zero_add]
theorem sm_cut : ∀ (d n : Nat) (f : Nat → Nat), (∀ i, n ≤ i → f i = 0) → sm_n (n + d) f = sm_n n f := by
  intro d
  induction d with
  | zero => intro n f _; rfl
  | succ d ih => intro n f h; show sm_n (n + d) f + f (n + d) = _; rw [ih n f h, h (n + d) (by omega)]; rfl
theorem st_sz_cnt {s n : Nat} (hs : s < 2 ^ n) (hn : n ≤ 7) : st_sz s = (List.range n).countP (fun i => s.testBit i) := by
  rw [st_range_cnt]
  have e : 7 = n + (7 - n) := by omega
  unfold st_sz
  rw [e]
  refine sm_cut _ _ _ (fun i hi => ?_)
  show (if s.testBit i = true then 1 else 0) = 0
  rw [st_hi hs hi]; rfl
theorem st_has {up : Bool} {w : List Nat} (hw : w.length ≤ 7) (k m : Nat) : gr_has (gr_ok up) k m w ↔ ∃ s, s < 2 ^ w.length ∧ st_cov up w k s ∧ m ≤ st_sz s := by
  have p7 : 2 ^ w.length ≤ 128 := (Nat.pow_le_pow_right (by decide) hw : 2 ^ w.length ≤ 2 ^ 7)
  constructor
  · rintro ⟨c, hc, hk, hv, hm⟩
    have hl : c.length = w.length := by rw [← hc, List.length_map]
    have hlt := st_mask_lt w.length (fun i => decide ((c.getD i (0, 0)).2 ≠ 0))
    have hb := fun i (hi : i < w.length) => st_mask_bit w.length (fun i => decide ((c.getD i (0, 0)).2 ≠ 0)) i hi
    have gc : ∀ i (hi : i < c.length), c.getD i (0, 0) = c[i] := fun i hi => by
      rw [List.getD_eq_getElem?_getD, List.getElem?_eq_getElem hi]; rfl
    have gw : ∀ i (hi : i < c.length), w.getD i 0 = c[i].1 := fun i hi => by
      rw [← hc, List.getD_eq_getElem?_getD, List.getElem?_map, List.getElem?_eq_getElem hi]; rfl
    refine ⟨st_mask w.length (fun i => decide ((c.getD i (0, 0)).2 ≠ 0)), hlt, ?_, ?_⟩
    · refine st_col_cov hw k _ (fun i => (c.getD i (0, 0)).2) hlt ⟨fun i hi => ?_, fun i => ?_, fun i j hij hj e n => ?_⟩
      · rw [hb i hi, decide_eq_true_eq]
      · show (c.getD i (0, 0)).2 ≤ k
        by_cases g : i < c.length
        · rw [gc i g]; exact hk _ (List.getElem_mem g)
        · rw [List.getD_eq_getElem?_getD, List.getElem?_eq_none (by omega)]; exact Nat.zero_le _
      · have hi' : i < c.length := by omega
        have hj' : j < c.length := by omega
        have hp := List.pairwise_iff_getElem.mp hv i j hi' hj' hij
        have e' : (c.getD i (0, 0)).2 = (c.getD j (0, 0)).2 := e
        have n' : (c.getD i (0, 0)).2 ≠ 0 := n
        rw [gc i hi', gc j hj'] at e'
        rw [gc i hi'] at n'
        rw [gw i hi', gw j hj']
        exact hp e' n'
    · rw [st_sz_cnt hlt hw]
      refine Nat.le_trans hm (Nat.le_of_eq ?_)
      have ec : c = (List.range w.length).map (fun i => c.getD i (0, 0)) := by
        refine List.ext_getElem (by simp [hl]) (fun i h1 h2 => ?_)
        rw [List.getElem_map, List.getElem_range, gc i h1]
      unfold gr_cnt
      conv => lhs; rw [ec]
      rw [List.countP_map]
      apply List.countP_congr
      intro i hi
      rw [hb i (List.mem_range.mp hi)]; rfl
  · rintro ⟨s, hs, hc, hm⟩
    obtain ⟨κ, a, b, c⟩ := st_cov_col k s (by omega) hc
    refine ⟨(List.range w.length).map (fun i => (w.getD i 0, κ i)), ?_, ?_, ?_, ?_⟩
    · rw [List.map_map]
      refine List.ext_getElem (by simp) (fun i h1 h2 => ?_)
      rw [List.getElem_map, List.getElem_range]
      show w.getD i 0 = _
      rw [List.getD_eq_getElem?_getD, List.getElem?_eq_getElem h2]; rfl
    · intro p hp
      obtain ⟨i, _, rfl⟩ := List.mem_map.mp hp
      exact b i
    · refine List.pairwise_map.mpr (List.Pairwise.imp_of_mem ?_ List.pairwise_lt_range)
      intro i j _ hj hij e n
      exact c i j hij (List.mem_range.mp hj) e n
    · rw [st_sz_cnt hs hw] at hm
      refine Nat.le_trans hm (Nat.le_of_eq ?_)
      rw [gr_cnt, List.countP_map]
      apply List.countP_congr
      intro i hi
      show s.testBit i = true ↔ decide (κ i ≠ 0) = true
      rw [decide_eq_true_eq, a i (List.mem_range.mp hi)]
/-- what k parts cover, by sets -/
theorem st_ans {w : List Nat} (hw : w.length ≤ 7) {k : Nat} (hk : k ≤ 3) (up : Bool) (m : Nat) : (∃ s, s < 2 ^ w.length ∧ st_cov up w k s ∧ m ≤ st_sz s) ↔ m ≤ gr_ans up k (tb_sh (tb_W w)) := by
  rw [← st_has hw, gr_word hw hk]
theorem st_cov_1 {up : Bool} {w : List Nat} {s : Nat} (hs : s < 128) : st_cov up w 1 s ↔ st_part up w s := by
  by_cases h : s = 0
  · subst h
    refine ⟨fun _ i j _ _ hi => ?_, fun _ => st_cov_0 up w 1⟩
    rw [Nat.zero_testBit] at hi; cases hi
  · rw [st_cov_iff 0 s h]
    constructor
    · rintro ⟨p, h0, h1, h2, h3⟩
      have h3' : st_sub s p = 0 := h3
      have e : p = s := by
        refine Nat.eq_of_testBit_eq (fun i => ?_)
        have g := st_sub_bit hs p i
        rw [h3', Nat.zero_testBit] at g
        cases hp : p.testBit i with
        | true => rw [st_bit_of h1 hp]
        | false => rw [hp] at g; simpa using g
      rw [← e]; exact h2
    · intro g
      refine ⟨s, h, Nat.and_self s, g, ?_⟩
      show st_sub s s = 0
      refine Nat.eq_of_testBit_eq (fun i => ?_)
      rw [st_sub_bit hs, Nat.zero_testBit]; cases s.testBit i <;> rfl
def st_chk : Bool := (List.range 128).all (fun s => (List.range 128).all (fun p => !(Nat.beq (p &&& s) p) || (List.range p).all (fun q => !(Nat.beq (q &&& s) q) || Nat.ble q ((p - 1) &&& s))))
theorem st_chk_t : st_chk = true := by decide +kernel
/-- the next smaller subset -/
theorem st_next {s p q : Nat} (hs : s < 128) (hp : p &&& s = p) (hq : q &&& s = q) (h : q < p) : q ≤ (p - 1) &&& s := by
  have hp' : p < 128 := by
    have : p &&& s ≤ s := Nat.and_le_right
    omega
  have h1 := List.all_eq_true.mp st_chk_t s (List.mem_range.mpr hs)
  have h2 := List.all_eq_true.mp h1 p (List.mem_range.mpr hp')
  rw [hp] at h2
  have h3 : (List.range p).all (fun q => !(Nat.beq (q &&& s) q) || Nat.ble q ((p - 1) &&& s)) = true := by
    have e : Nat.beq p p = true := Nat.beq_refl p
    rw [e] at h2
    exact h2
  have h4 := List.all_eq_true.mp h3 q (List.mem_range.mpr h)
  rw [hq, Nat.beq_refl q] at h4
  exact Nat.le_of_ble_eq_true h4
theorem st_next_sub (s p : Nat) : ((p - 1) &&& s) &&& s = (p - 1) &&& s := by
  rw [Nat.and_assoc, Nat.and_self]
theorem st_next_lt {s p : Nat} (h : 0 < p) : (p - 1) &&& s < p := Nat.lt_of_le_of_lt Nat.and_le_left (by omega)
end
section
/-! arrays that hold lists; indices; bytes -/
theorem ix_7 (j r : Nat) : (7 : Int32) * nI j + nI r = nI (7 * j + r) := by
  show nI 7 * nI j + nI r = _
  rw [pk_mul, nI_add]
theorem ix_70 (j : Nat) : (7 : Int32) * nI j = nI (7 * j) := by
  show nI 7 * nI j = _
  rw [pk_mul]
theorem ix_49 (j r c : Nat) : ((49 : Int32) * nI j + 7 * nI r) + nI c = nI (49 * j + 7 * r + c) := by
  show (nI 49 * nI j + nI 7 * nI r) + nI c = _
  rw [pk_mul, pk_mul, nI_add, nI_add]
theorem ix_490 (j c : Nat) : (49 : Int32) * nI j + nI c = nI (49 * j + c) := by
  show nI 49 * nI j + nI c = _
  rw [pk_mul, nI_add]
theorem ix_497 (r c : Nat) : ((49 : Int32) + 7 * nI r) + nI c = nI (49 + 7 * r + c) := by
  show (nI 49 + nI 7 * nI r) + nI c = _
  rw [pk_mul, nI_add, nI_add]
theorem ix_78 (c x : Nat) : (8 : Int32) * nI c + nI x = nI (8 * c + x) := by
  show nI 8 * nI c + nI x = _
  rw [pk_mul, nI_add]
theorem ix_s7 (r : Nat) : (7 : Int32) + nI r = nI (7 + r) := by
  show nI 7 + nI r = _
  rw [nI_add]
theorem ix_b (x : Nat) (h : x < 128) : (nI x).toInt8.toInt32 = nI x := by
  have : ∀ x, x < 128 → (nI x).toInt8.toInt32 = nI x := by decide +kernel
  exact this x h
theorem ix_n (x : Nat) (h : x < 128) : vp_nar .byte (nI x) = nI x := by rw [vp_nar_byte, ix_b x h]
theorem ix_nb (x : Nat) (h : x < 128) : vp_nar .byte (nI x).toInt8.toInt32 = nI x := by rw [ix_b x h, ix_n x h]
theorem ix_n0 : vp_nar .byte 0 = nI 0 := ix_n 0 (by decide)
theorem ix_2 (n : Nat) : nI n + 2 = nI (n + 2) := by
  show nI n + nI 2 = _
  rw [nI_add]
theorem ix_m1 {n : Nat} (h : 1 ≤ n) : nI n - 1 = nI (n - 1) := by
  show nI n - nI 1 = _
  rw [pk_sub h]
def ar_H (a : Nat → Int32) (o : Nat) (l : List Nat) : Prop := ∀ i, i < l.length → a (o + i) = nI (l.getD i 0)
theorem ar_nil (a : Nat → Int32) (o : Nat) : ar_H a o [] := fun i h => absurd h (Nat.not_lt_zero i)
theorem ar_out {a : Nat → Int32} {o k : Nat} {l : List Nat} {v : Int32} (h : ar_H a o l) (hk : k < o ∨ o + l.length ≤ k) : ar_H (upd a k v) o l := by
  intro i hi
  rw [pk_un (by omega)]
  exact h i hi
theorem ar_cong {a a' : Nat → Int32} {o : Nat} {l : List Nat} (h : ar_H a o l) (hk : ∀ i, i < l.length → a' (o + i) = a (o + i)) : ar_H a' o l := by
  intro i hi
  rw [hk i hi]
  exact h i hi
theorem ls_set_get (l : List Nat) (i j v : Nat) (hi : i < l.length) : (l.set i v).getD j 0 = if j = i then v else l.getD j 0 := by
  rw [List.getD_eq_getElem?_getD, List.getD_eq_getElem?_getD, List.getElem?_set]
  by_cases c : j = i
  · rw [if_pos c, if_pos c.symm, if_pos (by omega)]; rfl
  · rw [if_neg c, if_neg (fun z => c z.symm)]
theorem ar_set {a : Nat → Int32} {o i v : Nat} {l : List Nat} (h : ar_H a o l) (hi : i < l.length) : ar_H (upd a (o + i) (nI v)) o (l.set i v) := by
  intro j hj
  rw [List.length_set] at hj
  rw [ls_set_get l i j v hi]
  by_cases c : j = i
  · rw [if_pos c, c, pk_us]
  · rw [if_neg c, pk_un (by omega)]
    exact h j hj
theorem ls_snoc_get (l : List Nat) (v j : Nat) : (l ++ [v]).getD j 0 = if j = l.length then v else l.getD j 0 := by
  by_cases c : j < l.length
  · rw [ls_getD_lo c, if_neg (by omega)]
  · obtain ⟨k, rfl⟩ : ∃ k, j = l.length + k := ⟨j - l.length, by omega⟩
    rw [ls_getD_app]
    cases k with
    | zero => rw [if_pos (by omega)]; rfl
    | succ k =>
      rw [if_neg (by omega), List.getD_eq_getElem?_getD, List.getD_eq_getElem?_getD, List.getElem?_eq_none (by simp), List.getElem?_eq_none (by omega)]
theorem ar_snoc {a : Nat → Int32} {o v : Nat} {l : List Nat} (h : ar_H a o l) : ar_H (upd a (o + l.length) (nI v)) o (l ++ [v]) := by
  intro j hj
  rw [List.length_append] at hj
  have hj' : j < l.length + 1 := hj
  rw [ls_snoc_get]
  by_cases c : j = l.length
  · rw [if_pos c, c, pk_us]
  · rw [if_neg c, pk_un (by omega)]
    exact h j (by omega)
theorem ls_dl_get {l : List Nat} {j : Nat} (h : j < l.dropLast.length) : l.dropLast.getD j 0 = l.getD j 0 := by
  rw [List.length_dropLast] at h
  rw [List.dropLast_eq_take, ls_getD_take h]
theorem ar_dl {a : Nat → Int32} {o : Nat} {l : List Nat} (h : ar_H a o l) : ar_H a o l.dropLast := by
  intro j hj
  rw [ls_dl_get hj]
  rw [List.length_dropLast] at hj
  exact h j (by omega)
theorem ar_tk {a : Nat → Int32} {o n : Nat} {l : List Nat} (h : ar_H a o l) : ar_H a o (l.take n) := by
  intro j hj
  rw [List.length_take] at hj
  rw [ls_getD_take (by omega)]
  exact h j (by omega)
theorem ls_getD_mem {l : List Nat} {i : Nat} (h : i < l.length) : l.getD i 0 ∈ l := by
  rw [List.getD_eq_getElem?_getD, List.getElem?_eq_getElem h]
  exact List.getElem_mem h
/-- rows in two arrays: block j -/
def tA_H (en le : Nat → Int32) (j : Nat) (T : List (List Nat)) : Prop := T.length = 7 ∧ ∀ r, r < 7 → le (7 * j + r) = nI (T.getD r []).length ∧ ar_H en (49 * j + 7 * r) (T.getD r []) ∧ (T.getD r []).length ≤ 7
def tA_fr (en le en' le' : Nat → Int32) (j : Nat) : Prop := (∀ q, (q < 49 * j ∨ 49 * j + 49 ≤ q) → en' q = en q) ∧ (∀ q, (q < 7 * j ∨ 7 * j + 7 ≤ q) → le' q = le q)
theorem tA_fr_r (en le : Nat → Int32) (j : Nat) : tA_fr en le en le j := ⟨fun _ _ => rfl, fun _ _ => rfl⟩
theorem tA_fr_t {en le en' le' en2 le2 : Nat → Int32} {j : Nat} (h : tA_fr en le en' le' j) (g : tA_fr en' le' en2 le2 j) : tA_fr en le en2 le2 j :=
  ⟨fun q hq => (g.1 q hq).trans (h.1 q hq), fun q hq => (g.2 q hq).trans (h.2 q hq)⟩
theorem tA_fr_e {en le : Nat → Int32} {j k : Nat} {v : Int32} (h : 49 * j ≤ k ∧ k < 49 * j + 49) : tA_fr en le (upd en k v) le j :=
  ⟨fun q hq => pk_un (by omega), fun _ _ => rfl⟩
theorem tA_fr_l {en le : Nat → Int32} {j k : Nat} {v : Int32} (h : 7 * j ≤ k ∧ k < 7 * j + 7) : tA_fr en le en (upd le k v) j :=
  ⟨fun _ _ => rfl, fun q hq => pk_un (by omega)⟩
theorem tA_other {en le en' le' : Nat → Int32} {j j' : Nat} {T : List (List Nat)} (h : tA_fr en le en' le' j) (hj : j' ≠ j) (hT : tA_H en le j' T) : tA_H en' le' j' T := by
  refine ⟨hT.1, fun r hr => ?_⟩
  obtain ⟨h1, h2, h3⟩ := hT.2 r hr
  refine ⟨?_, ?_, h3⟩
  · rw [h.2 _ (by omega)]; exact h1
  · exact ar_cong h2 (fun i hi => h.1 _ (by omega))
theorem ls_rows_set (T : List (List Nat)) (r q : Nat) (R : List Nat) (hr : r < T.length) : (T.set r R).getD q [] = if q = r then R else T.getD q [] := by
  rw [List.getD_eq_getElem?_getD, List.getD_eq_getElem?_getD, List.getElem?_set]
  by_cases c : q = r
  · rw [if_pos c, if_pos c.symm, if_pos (by omega)]; rfl
  · rw [if_neg c, if_neg (fun z => c z.symm)]
theorem tA_row {en le en' le' : Nat → Int32} {j r : Nat} {T : List (List Nat)} {R : List Nat} (h : tA_H en le j T) (hr : r < 7) (hl : le' (7 * j + r) = nI R.length) (he : ar_H en' (49 * j + 7 * r) R) (h7 : R.length ≤ 7)
    (ho : ∀ q, q < 7 → q ≠ r → le' (7 * j + q) = le (7 * j + q)) (hoe : ∀ q c, q < 7 → q ≠ r → c < 7 → en' (49 * j + 7 * q + c) = en (49 * j + 7 * q + c)) : tA_H en' le' j (T.set r R) := by
  refine ⟨by rw [List.length_set]; exact h.1, fun q hq => ?_⟩
  rw [ls_rows_set T r q R (by rw [h.1]; exact hr)]
  by_cases c : q = r
  · rw [if_pos c, c]; exact ⟨hl, he, h7⟩
  · rw [if_neg c]
    obtain ⟨h1, h2, h3⟩ := h.2 q hq
    exact ⟨by rw [ho q hq c]; exact h1, ar_cong h2 (fun i hi => hoe q i hq c (by omega)), h3⟩
/-- an entry of row r is overwritten -/
theorem tA_put {en le : Nat → Int32} {j r c x : Nat} {T : List (List Nat)} (h : tA_H en le j T) (hr : r < 7) (hc : c < (T.getD r []).length) : tA_H (upd en (49 * j + 7 * r + c) (nI x)) le j (T.set r ((T.getD r []).set c x)) := by
  obtain ⟨h1, h2, h3⟩ := h.2 r hr
  refine tA_row h hr (by rw [List.length_set]; exact h1) (ar_set h2 hc) (by rw [List.length_set]; exact h3) (fun _ _ _ => rfl) (fun q i hq hqr hi => pk_un ?_)
  omega
/-- a row grows -/
theorem tA_app {en le : Nat → Int32} {j r x : Nat} {T : List (List Nat)} (h : tA_H en le j T) (hr : r < 7) (h6 : (T.getD r []).length ≤ 6) : tA_H (upd en (49 * j + 7 * r + (T.getD r []).length) (nI x)) (upd le (7 * j + r) (nI ((T.getD r []).length + 1))) j (T.set r (T.getD r [] ++ [x])) := by
  obtain ⟨h1, h2, h3⟩ := h.2 r hr
  refine tA_row h hr (by rw [pk_us, List.length_append]; rfl) (ar_snoc h2) (by rw [List.length_append]; show _ + 1 ≤ 7; omega) (fun q hq hqr => pk_un (by omega)) (fun q i hq hqr hi => pk_un ?_)
  omega
/-- a row loses its last entry -/
theorem tA_dl {en le : Nat → Int32} {j r : Nat} {T : List (List Nat)} (h : tA_H en le j T) (hr : r < 7) : tA_H en (upd le (7 * j + r) (nI ((T.getD r []).length - 1))) j (T.set r (T.getD r []).dropLast) := by
  obtain ⟨h1, h2, h3⟩ := h.2 r hr
  refine tA_row h hr (by rw [pk_us, List.length_dropLast]) (ar_dl h2) (by rw [List.length_dropLast]; omega) (fun q hq hqr => pk_un (by omega)) (fun q i hq hqr hi => rfl)
/-- the place of the first greater entry -/
def fa_n : List Nat → Nat → Nat
  | [], _ => 0
  | a :: R, x => if x < a then 0 else fa_n R x + 1
theorem fa_le : ∀ (R : List Nat) (x : Nat), fa_n R x ≤ R.length := by
  intro R
  induction R with
  | nil => intro x; exact Nat.le_refl _
  | cons a R ih =>
    intro x
    rw [fa_n]
    have := ih x
    split
    · exact Nat.zero_le _
    · exact Nat.succ_le_succ this
theorem fa_char : ∀ (R : List Nat) (x c : Nat), c ≤ R.length → (∀ i, i < c → R.getD i 0 ≤ x) → (c = R.length ∨ x < R.getD c 0) → c = fa_n R x := by
  intro R
  induction R with
  | nil => intro x c h _ _; exact Nat.le_zero.mp h
  | cons a R ih =>
    intro x c hc hi he
    rw [fa_n]
    cases c with
    | zero =>
      rcases he with e | e
      · cases e
      · have e' : x < a := e
        rw [if_pos e']
    | succ c =>
      have h0 : a ≤ x := hi 0 (by omega)
      rw [if_neg (by omega)]
      congr 1
      refine ih x c (Nat.le_of_succ_le_succ hc) (fun i hh => hi (i + 1) (by omega)) ?_
      rcases he with e | e
      · exact Or.inl (Nat.succ.inj e)
      · exact Or.inr e
theorem fa_ins : ∀ (R : List Nat) (x : Nat), (fa_n R x = R.length → rs_ins R x = (R ++ [x], none)) ∧ (fa_n R x < R.length → rs_ins R x = (R.set (fa_n R x) x, some (R.getD (fa_n R x) 0))) := by
  intro R
  induction R with
  | nil => intro x; exact ⟨fun _ => rfl, fun h => absurd h (Nat.not_lt_zero _)⟩
  | cons a R ih =>
    intro x
    by_cases c : x < a
    · rw [fa_n, if_pos c, rs_lt R c]
      exact ⟨fun h => (by cases h), fun _ => rfl⟩
    · rw [fa_n, if_neg c, rs_ge R (by omega)]
      refine ⟨fun h => ?_, fun h => ?_⟩
      · rw [(ih x).1 (Nat.succ.inj h)]; rfl
      · rw [(ih x).2 (Nat.lt_of_succ_lt_succ h)]; rfl
end
section
/-! the component: letters into rows -/
theorem ls_rcut {T : List (List Nat)} {r : Nat} (h : r < T.length) : T.drop r = T.getD r [] :: T.drop (r + 1) := by
  rw [List.drop_eq_getElem_cons h]
  congr 1
  rw [List.getD_eq_getElem?_getD, List.getElem?_eq_getElem h]; rfl
theorem ls_rset {T : List (List Nat)} {r : Nat} (Q : List Nat) (h : r < T.length) : T.set r Q = T.take r ++ Q :: T.drop (r + 1) := by
  rw [List.set_eq_take_append_cons_drop, if_pos h]
theorem ls_rtk {T : List (List Nat)} {r : Nat} (Q : List Nat) (h : r < T.length) : (T.set r Q).take (r + 1) = T.take r ++ [Q] := by
  rw [ls_rset Q h, show T.take r ++ Q :: T.drop (r + 1) = (T.take r ++ [Q]) ++ T.drop (r + 1) by simp]
  exact List.take_left' (by rw [List.length_append, List.length_take]; simp; omega)
theorem ls_rdp {T : List (List Nat)} {r : Nat} (Q : List Nat) (h : r < T.length) : (T.set r Q).drop (r + 1) = T.drop (r + 1) := by
  rw [ls_rset Q h, show T.take r ++ Q :: T.drop (r + 1) = (T.take r ++ [Q]) ++ T.drop (r + 1) by simp]
  exact List.drop_left' (by rw [List.length_append, List.length_take]; simp; omega)
def tb_8 (T : List (List Nat)) : Prop := ∀ R, R ∈ T → ∀ y, y ∈ R → y < 8
theorem ls_rmem {T : List (List Nat)} {r : Nat} (h : r < T.length) : T.getD r [] ∈ T := by
  rw [List.getD_eq_getElem?_getD, List.getElem?_eq_getElem h]
  exact List.getElem_mem h
theorem tb_8_set {T : List (List Nat)} {r : Nat} {Q : List Nat} (h : tb_8 T) (hQ : ∀ y, y ∈ Q → y < 8) : tb_8 (T.set r Q) := by
  intro R hR y hy
  rcases List.mem_or_eq_of_mem_set hR with e | e
  · exact h R e y hy
  · rw [e] at hy; exact hQ y hy
section
variable {f : Int32} {cn wo en le lf ll tr ca co : Nat → Int32}
theorem xf_3 {post : Int32 → Prop} {j r x : Nat} {R : List Nat} (hj : j < 2) (hr : r < 7) (hx : x < 8) (hl : le (7 * j + r) = nI R.length) (he : ar_H en (49 * j + 7 * r) R) (h7 : R.length ≤ 7) (h8 : ∀ y, y ∈ R → y < 8) (hp : post (nI (fa_n R x))) :
    ∀ (d c n : Nat), c + d = R.length → d < n → (∀ i, i < c → R.getD i 0 ≤ x) → wX_firstAbove_3 post (nI j) (nI r) (nI x) f cn wo en le lf ll tr ca co n (nI c) := by
  intro d
  induction d with
  | zero =>
    intro c n hc hn hi
    obtain ⟨m, rfl⟩ : ∃ m, n = m + 1 := ⟨n - 1, by omega⟩
    have e : c = fa_n R x := fa_char R x c (by omega) hi (Or.inl (by omega))
    rw [wX_firstAbove_3, ix_7]
    refine ⟨vp_in_nI (by omega) (by decide), ?_⟩
    rw [nI_clamp (by omega), hl]
    refine br_t (nI_le (by omega) (by omega)) ?_
    rw [e]; exact hp
  | succ d ih =>
    intro c n hc hn hi
    obtain ⟨m, rfl⟩ : ∃ m, n = m + 1 := ⟨n - 1, by omega⟩
    have hcl : c < R.length := by omega
    have hc8 := h8 _ (ls_getD_mem hcl)
    rw [wX_firstAbove_3]
    dsimp only
    rw [ix_7, ix_49]
    refine ⟨vp_in_nI (by omega) (by decide), ?_⟩
    rw [nI_clamp (by omega), hl]
    refine br_f (nI_ge (by omega) (by omega)) ⟨vp_in_nI (by omega) (by decide), ?_⟩
    rw [nI_clamp (by omega), he c hcl]
    refine pk_lt x (R.getD c 0) (fun h => ?_) (fun h => nm_r (nI_1 c) (ih (c + 1) m (by omega) (by omega) (fun i hi' => ?_)))
    · have e : c = fa_n R x := fa_char R x c (by omega) hi (Or.inr h)
      rw [e]; exact hp
    · by_cases g : i < c
      · exact hi i g
      · have : i = c := by omega
        rw [this]; exact h
theorem xf_wp {post : Int32 → Prop} {j r x : Nat} {R : List Nat} (hj : j < 2) (hr : r < 7) (hx : x < 8) (hl : le (7 * j + r) = nI R.length) (he : ar_H en (49 * j + 7 * r) R) (h7 : R.length ≤ 7) (h8 : ∀ y, y ∈ R → y < 8) (hp : post (nI (fa_n R x))) :
    wpX_firstAbove post (f, cn, wo, en, le, lf, ll, tr, ca, co) (nI j) (nI r) (nI x) :=
  ⟨R.length + 1, xf_3 hj hr hx hl he h7 h8 hp R.length 0 (R.length + 1) (by omega) (by omega) (fun i h => absurd h (Nat.not_lt_zero i))⟩
theorem xi_8 {post : Int32 → SX → Prop} {j : Nat} (hj : j < 2) : ∀ (d r x n : Nat) (T : List (List Nat)) (en le : Nat → Int32), r + d = 7 → d < n → tA_H en le j T → (∀ q, q < 7 → (T.getD q []).length ≤ 6) → tb_8 T → x < 8 → tb_room (T.drop r) →
    (∀ en' le' rr, tA_H en' le' j (T.take r ++ tb_put (T.drop r) (some x)) → tA_fr en le en' le' j → post rr (f, cn, wo, en', le', lf, ll, tr, ca, co)) → wX_insert_8 post (nI j) f n (nI x) (nI r) 1 cn wo en le lf ll tr ca co := by
  intro d
  induction d with
  | zero =>
    intro r x n T en le hr _ hT _ _ _ hroom _
    have e : T.drop r = [] := by rw [List.drop_eq_nil_iff, hT.1]; omega
    rw [e] at hroom
    exact hroom.elim
  | succ d ih =>
    intro r x n T en le hrd hn hT h6 h8 hx hroom hpost
    obtain ⟨m, rfl⟩ : ∃ m, n = m + 1 := ⟨n - 1, by omega⟩
    have hr : r < 7 := by omega
    have hrl : r < T.length := by rw [hT.1]; exact hr
    obtain ⟨h1, h2, h3⟩ := hT.2 r hr
    have hc := ls_rcut hrl
    have hR6 := h6 r hr
    have hR8 := h8 _ (ls_rmem hrl)
    rw [hc] at hroom hpost
    have hset := fun Q => ls_rset (T := T) Q hrl
    have htk := fun Q => ls_rtk (T := T) Q hrl
    have hdp := fun Q => ls_rdp (T := T) Q hrl
    have hfa := fa_le (T.getD r []) x
    have hins := fa_ins (T.getD r []) x
    rw [wX_insert_8]
    refine br_f (by decide) (br_f (nI_ge (b := 7) (by omega) (by decide)) (xf_wp hj hr hx h1 h2 h3 hR8 (nm_r (ix_49 j r _) ?_)))
    rw [ix_7]
    refine ⟨vp_in_nI (by omega) (by decide), ?_⟩
    rw [nI_clamp (by omega), h1]
    refine pk_eq (fa_n (T.getD r []) x) (T.getD r []).length (fun h => ?_) (fun h => ?_)
    · refine ⟨vp_in_nI (by omega) (by decide), nm_r (e' := upd en (49 * j + 7 * r + (T.getD r []).length) (nI x)) (by rw [nI_clamp (by omega), ix_nb x (by omega), h]) ⟨vp_in_nI (by omega) (by decide), vp_in_nI (by omega) (by decide), nm_r (e' := upd le (7 * j + r) (nI ((T.getD r []).length + 1))) (by rw [nI_1, ix_nb _ (by omega)]) ?_⟩⟩
      obtain ⟨m', rfl⟩ : ∃ m', m = m' + 1 := ⟨m - 1, by omega⟩
      rw [wX_insert_8]
      refine br_t rfl (hpost _ _ _ ?_ (tA_fr_t (tA_fr_e (by omega)) (tA_fr_l (by omega))))
      rw [tb_put_some, hins.1 h, tb_put_none, ← hset]
      exact tA_app hT hr hR6
    · have hlt : fa_n (T.getD r []) x < (T.getD r []).length := by omega
      have hb8 := hR8 _ (ls_getD_mem hlt)
      refine ⟨vp_in_nI (by omega) (by decide), nm_r (e' := nI ((T.getD r []).getD (fa_n (T.getD r []) x) 0)) (by rw [nI_clamp (by omega)]; exact h2 _ hlt) ⟨vp_in_nI (by omega) (by decide), nm_r (e' := upd en (49 * j + 7 * r + fa_n (T.getD r []) x) (nI x)) (by rw [nI_clamp (by omega), ix_nb x (by omega)]) (nm_r (nI_1 r) ?_)⟩⟩
      refine ih (r + 1) _ m (T.set r ((T.getD r []).set (fa_n (T.getD r []) x) x)) _ _ (by omega) (by omega) (tA_put hT hr hlt) ?_ (tb_8_set h8 ?_) hb8 ?_ ?_
      · intro q hq
        rw [ls_rows_set T r q _ hrl]
        split
        · rw [List.length_set]; exact hR6
        · exact h6 q hq
      · intro y hy
        rcases List.mem_or_eq_of_mem_set hy with e | e
        · exact hR8 y e
        · omega
      · rw [hdp]
        rcases hroom with e | e
        · rw [e] at hlt; exact absurd hlt (Nat.not_lt_zero _)
        · exact e
      · intro en' le' rr ht hf
        refine hpost en' le' rr ?_ (tA_fr_t (tA_fr_e (by omega)) hf)
        rw [hdp, htk] at ht
        rw [tb_put_some, hins.2 hlt]
        simpa using ht
/-- a letter into the rows of word j -/
theorem xi_wp {post : Int32 → SX → Prop} {j x : Nat} {T : List (List Nat)} (hj : j < 2) (hT : tA_H en le j T) (h6 : ∀ q, q < 7 → (T.getD q []).length ≤ 6) (h8 : tb_8 T) (hx : x < 8) (hroom : tb_room T)
    (hp : ∀ en' le' rr, tA_H en' le' j (tb_put T (some x)) → tA_fr en le en' le' j → post rr (f, cn, wo, en', le', lf, ll, tr, ca, co)) : wpX_insert post (f, cn, wo, en, le, lf, ll, tr, ca, co) (nI j) (nI x) :=
  ⟨8, xi_8 hj 7 0 x 8 T en le rfl (by omega) hT h6 h8 hx hroom hp⟩
end
end
section
/-! the component: rows built anew -/
theorem ls_take_succ {w : List Nat} {i : Nat} (h : i < w.length) : w.take (i + 1) = w.take i ++ [w.getD i 0] := by
  rw [List.take_succ, List.getD_eq_getElem?_getD, List.getElem?_eq_getElem h]; rfl
theorem tb_rd_row : ∀ (T : List (List Nat)) (q : Nat), (T.getD q []).length ≤ (tb_rd T).length := by
  intro T
  induction T with
  | nil => intro q; exact Nat.le_refl _
  | cons R T ih =>
    intro q
    show _ ≤ (tb_rd T ++ R).length
    rw [List.length_append]
    cases q with
    | zero => show R.length ≤ _; omega
    | succ q => have := ih q; show (T.getD q []).length ≤ _; omega
theorem tb_rd_mem : ∀ (T : List (List Nat)) (R : List Nat) (y : Nat), R ∈ T → y ∈ R → y ∈ tb_rd T := by
  intro T
  induction T with
  | nil => intro R y h; cases h
  | cons Q T ih =>
    intro R y h hy
    show y ∈ tb_rd T ++ Q
    rw [List.mem_append]
    rcases List.mem_cons.mp h with e | e
    · rw [e] at hy; exact Or.inr hy
    · exact Or.inl (ih R y e hy)
theorem tb_W_8 {w : List Nat} (h : w.length ≤ 7) (ho : wd_ok w) : tb_8 (tb_W w) := by
  intro R hR y hy
  have := (kn_perm (tb_W_rd w h).2).mem_iff.mp (tb_rd_mem _ R y hR hy)
  exact (ho y this).2
theorem tb_W_le {w : List Nat} (h : w.length ≤ 7) (q : Nat) : ((tb_W w).getD q []).length ≤ w.length := by
  have := tb_rd_row (tb_W w) q
  rw [(tb_W_rd w h).1] at this
  exact this
theorem wd_take {w : List Nat} (h : wd_ok w) (n : Nat) : wd_ok (w.take n) := fun x hx => h x (List.mem_of_mem_take hx)
theorem tb_0_get (q : Nat) : tb_0.getD q [] = [] := by
  unfold tb_0
  rw [List.getD_eq_getElem?_getD, List.getElem?_replicate]
  split <;> rfl
section
variable {f : Int32} {cn wo en le lf ll tr ca co : Nat → Int32}
theorem xr_28 {post : SX → Prop} {j N : Nat} {w : List Nat} (hj : j < 2) (hw : w.length ≤ 7) (hN : N ≤ w.length) (ho : wd_ok w) (hwo : ar_H wo (7 * j) w) :
    ∀ (d i n : Nat) (en le : Nat → Int32), i + d = N → d < n → tA_H en le j (tb_W (w.take i)) →
    (∀ en' le', tA_H en' le' j (tb_W (w.take N)) → tA_fr en le en' le' j → post (f, cn, wo, en', le', lf, ll, tr, ca, co)) → wX_rebuild_28 post (nI j) (nI N) n (nI i) f cn wo en le lf ll tr ca co := by
  intro d
  induction d with
  | zero =>
    intro i n en le hi hn hT hp
    obtain ⟨m, rfl⟩ : ∃ m, n = m + 1 := ⟨n - 1, by omega⟩
    rw [wX_rebuild_28]
    have e : i = N := by omega
    subst e
    exact br_t (nI_le (by omega) (by omega)) (hp _ _ hT (tA_fr_r _ _ _))
  | succ d ih =>
    intro i n en le hi hn hT hp
    obtain ⟨m, rfl⟩ : ∃ m, n = m + 1 := ⟨n - 1, by omega⟩
    have hil : i < w.length := by omega
    have htl : (w.take i).length = i := by rw [List.length_take]; omega
    rw [wX_rebuild_28]
    dsimp only
    rw [ix_7, nI_clamp (by omega), hwo i hil]
    refine br_f (nI_ge (by omega) (by omega)) ⟨vp_in_nI (by omega) (by decide), xi_wp hj hT ?_ (tb_W_8 (by omega) (wd_take ho i)) (ho _ (ls_getD_mem hil)).2 (tb_W_room (by omega)) ?_⟩
    · intro q _
      have := tb_W_le (w := w.take i) (by omega) q
      omega
    · intro en' le' rr ht hf
      rw [← tb_W_snoc, ← ls_take_succ hil] at ht
      exact nm_r (nI_1 i) (ih (i + 1) m en' le' (by omega) (by omega) ht (fun e2 l2 h2 f2 => hp e2 l2 h2 (tA_fr_t hf f2)))
theorem xr_2 {post : SX → Prop} {j N : Nat} {w : List Nat} (hj : j < 2) (hw : w.length ≤ 7) (hN : N ≤ w.length) (ho : wd_ok w) (hwo : ar_H wo (7 * j) w) :
    ∀ (d r n : Nat) (le : Nat → Int32), r + d = 7 → d < n → (∀ q, q < r → le (7 * j + q) = nI 0) →
    (∀ en' le', tA_H en' le' j (tb_W (w.take N)) → tA_fr en le en' le' j → post (f, cn, wo, en', le', lf, ll, tr, ca, co)) → wX_rebuild_2 post (nI j) (nI N) f n (nI r) cn wo en le lf ll tr ca co := by
  intro d
  induction d with
  | zero =>
    intro r n le hr hn hq hp
    obtain ⟨m, rfl⟩ : ∃ m, n = m + 1 := ⟨n - 1, by omega⟩
    rw [wX_rebuild_2]
    refine br_t (nI_le (a := 7) (by omega) (by omega)) ⟨N + 1, xr_28 hj hw hN ho hwo N 0 (N + 1) en le (by omega) (by omega) ?_ hp⟩
    refine ⟨tb_W_len _, fun q hq' => ?_⟩
    show le (7 * j + q) = nI (tb_0.getD q []).length ∧ ar_H en (49 * j + 7 * q) (tb_0.getD q []) ∧ (tb_0.getD q []).length ≤ 7
    rw [tb_0_get]
    exact ⟨hq q (by omega), ar_nil _ _, Nat.zero_le _⟩
  | succ d ih =>
    intro r n le hr hn hq hp
    obtain ⟨m, rfl⟩ : ∃ m, n = m + 1 := ⟨n - 1, by omega⟩
    rw [wX_rebuild_2]
    dsimp only
    rw [ix_7, nI_clamp (by omega), ix_n0]
    refine br_f (nI_ge (b := 7) (by omega) (by decide)) ⟨vp_in_nI (by omega) (by decide), nm_e (nm_r (nI_1 r) (ih (r + 1) m _ (by omega) (by omega) ?_ ?_))⟩
    · intro q hq'
      by_cases c : q = r
      · rw [c, pk_us]
      · rw [pk_un (by omega)]; exact hq q (by omega)
    · intro en' le' ht hf
      exact hp en' le' ht (tA_fr_t (tA_fr_l (by omega)) hf)
theorem xr_wp {post : SX → Prop} {j N : Nat} {w : List Nat} (hj : j < 2) (hw : w.length ≤ 7) (hN : N ≤ w.length) (ho : wd_ok w) (hwo : ar_H wo (7 * j) w)
    (hp : ∀ en' le', tA_H en' le' j (tb_W (w.take N)) → tA_fr en le en' le' j → post (f, cn, wo, en', le', lf, ll, tr, ca, co)) : wpX_rebuild post (f, cn, wo, en, le, lf, ll, tr, ca, co) (nI j) (nI N) :=
  ⟨8, xr_2 hj hw hN ho hwo 7 0 8 le rfl (by omega) (fun q h => absurd h (Nat.not_lt_zero q)) hp⟩
end
end
section
/-! small methods of both sides: bad words, take, moves, exchanges -/
theorem ar_0 {a : Nat → Int32} {l : List Nat} {i : Nat} (h : ar_H a 0 l) (hi : i < l.length) : a i = nI (l.getD i 0) := by
  have := h i hi
  rwa [Nat.zero_add] at this
theorem ix_bad {x : Int32} (h : x < 0 ∨ nI 2 ≤ x) : x < 0 ∨ (¬ x < 0 ∧ ¬ x ≤ 1) := by
  by_cases c : x < 0
  · exact Or.inl c
  · refine Or.inr ⟨c, fun z => ?_⟩
    rcases h with h | h
    · exact c h
    · obtain ⟨n, hn, rfl⟩ := nI_of c
      rw [nI_leI (by decide) hn] at h
      have z' : nI n ≤ nI 1 := z
      rw [nI_leI hn (by decide)] at z'
      omega
theorem ix_ok {j : Nat} (h : j < 2) : ¬ nI j < 0 ∧ nI j ≤ 1 := ⟨nI_pos (by omega), nI_le (b := 1) (by omega) (by decide)⟩
theorem xb_bad {post : Int32 → Prop} {u : SX} {x : Int32} (h : x < 0 ∨ nI 2 ≤ x) (hp : post 1) : wpX_badWord post u x := by
  obtain ⟨f, cn, wo, en, le, lf, ll, tr, ca, co⟩ := u
  rcases ix_bad h with g | g
  · exact br_t g hp
  · exact br_f g.1 (br_f g.2 hp)
theorem xb_ok {post : Int32 → Prop} {u : SX} {j : Nat} (h : j < 2) (hp : post 0) : wpX_badWord post u (nI j) := by
  obtain ⟨f, cn, wo, en, le, lf, ll, tr, ca, co⟩ := u
  exact br_f (ix_ok h).1 (br_t (ix_ok h).2 hp)
theorem yb_bad {post : Int32 → Prop} {u : SY} {x : Int32} (h : x < 0 ∨ nI 2 ≤ x) (hp : post 1) : wpY_bad post u x := by
  obtain ⟨f, lt, si, ro, cd, sg, nd⟩ := u
  rcases ix_bad h with g | g
  · exact br_t g hp
  · exact br_f g.1 (br_f g.2 hp)
theorem yb_ok {post : Int32 → Prop} {u : SY} {j : Nat} (h : j < 2) (hp : post 0) : wpY_bad post u (nI j) := by
  obtain ⟨f, lt, si, ro, cd, sg, nd⟩ := u
  exact br_f (ix_ok h).1 (br_t (ix_ok h).2 hp)
theorem ix_word (x : Int32) : (x < 0 ∨ nI 2 ≤ x) ∨ ∃ j : Nat, j < 2 ∧ x = nI j := by
  rcases pk_ix x (n := 2) (by decide) with h | h | h
  · exact Or.inl (Or.inl h)
  · exact Or.inl (Or.inr h)
  · exact Or.inr h
section
variable {f : Int32} {lt si ro cd sg nd : Nat → Int32}
/-- a word to hand -/
theorem yt_2 {post : Int32 → SY → Prop} {j : Nat} {w : List Nat} (hj : j < 2) (hw : w.length ≤ 7) (hs : si j = nI w.length) (hl : ar_H lt (7 * j) w) (hp : ∀ ro', ar_H ro' 0 w → post (nI w.length) (f, lt, si, ro', cd, sg, nd)) :
    ∀ (d i n : Nat) (ro : Nat → Int32), i + d = w.length → d < n → (∀ q, q < i → ro q = nI (w.getD q 0)) → wY_take_2 post (nI j) f n (nI i) lt si ro cd sg nd := by
  intro d
  induction d with
  | zero =>
    intro i n ro hi hn hq
    obtain ⟨m, rfl⟩ : ∃ m, n = m + 1 := ⟨n - 1, by omega⟩
    rw [wY_take_2]
    dsimp only
    rw [nI_clamp (by omega), hs]
    refine ⟨vp_in_nI (by omega) (by decide), br_t (nI_le (by omega) (by omega)) ⟨vp_in_nI (by omega) (by decide), hp ro (fun q hq' => ?_)⟩⟩
    rw [Nat.zero_add]; exact hq q (by omega)
  | succ d ih =>
    intro i n ro hi hn hq
    obtain ⟨m, rfl⟩ : ∃ m, n = m + 1 := ⟨n - 1, by omega⟩
    rw [wY_take_2]
    dsimp only
    rw [nI_clamp (n := j) (by omega), hs, ix_7, nI_clamp (n := 7 * j + i) (by omega), hl i (by omega), nI_clamp (n := i) (by omega)]
    refine ⟨vp_in_nI (by omega) (by decide), br_f (nI_ge (by omega) (by omega)) ⟨vp_in_nI (by omega) (by decide), vp_in_nI (by omega) (by decide), nm_e (nm_r (nI_1 i) (ih (i + 1) m _ (by omega) (by omega) (fun q hq' => ?_)))⟩⟩
    by_cases c : q = i
    · rw [c, pk_us]
    · rw [pk_un c]; exact hq q (by omega)
theorem yt_wp {post : Int32 → SY → Prop} {j : Nat} {w : List Nat} (hj : j < 2) (hw : w.length ≤ 7) (hs : si j = nI w.length) (hl : ar_H lt (7 * j) w) (hp : ∀ ro', ar_H ro' 0 w → post (nI w.length) (f, lt, si, ro', cd, sg, nd)) :
    wpY_take post (f, lt, si, ro, cd, sg, nd) (nI j) :=
  ⟨w.length + 1, yt_2 hj hw hs hl hp w.length 0 (w.length + 1) ro (by omega) (by omega) (fun q h => absurd h (Nat.not_lt_zero q))⟩
theorem ym_86 {post : Int32 → Prop} {w : List Nat} {i x z : Nat} (hw : w.length ≤ 7) (hx : x < 8) (hz : z < 8) (ho : wd_ok w) (hi : i + 1 < w.length) (hr : ar_H ro 0 w)
    (h1 : i + 2 < w.length ∧ x ≤ w.getD (i + 2) 0 ∧ w.getD (i + 2) 0 < z → post 1) (h0 : ¬ (i + 2 < w.length ∧ x ≤ w.getD (i + 2) 0 ∧ w.getD (i + 2) 0 < z) → post 0) :
    wY_isMove_86 post (nI w.length) (nI i) (nI x) (nI z) f lt si ro cd sg nd := by
  rw [wY_isMove_86, ix_2]
  refine pk_le w.length (i + 2) (fun h => h0 (by omega)) (fun h => ⟨vp_in_nI (by omega) (by decide), ?_⟩)
  have h8 := ho _ (ls_getD_mem h)
  rw [nI_clamp (by omega), ar_0 hr h]
  refine pk_lt (w.getD (i + 2) 0) x (fun h => h0 (by omega)) (fun g => ⟨vp_in_nI (by omega) (by decide), ?_⟩)
  exact pk_le z (w.getD (i + 2) 0) (fun h => h0 (by omega)) (fun h => h1 (by omega))
theorem ym_43 {post : Int32 → Prop} {w : List Nat} {i x z : Nat} (hw : w.length ≤ 7) (hx : x < 8) (hz : z < 8) (hxz : x ≤ z) (ho : wd_ok w) (hi : i + 1 < w.length) (hr : ar_H ro 0 w) {Q : Prop}
    (hQ : Q ↔ (x < z ∧ ((0 < i ∧ x < w.getD (i - 1) 0 ∧ w.getD (i - 1) 0 ≤ z) ∨ (i + 2 < w.length ∧ x ≤ w.getD (i + 2) 0 ∧ w.getD (i + 2) 0 < z))))
    (h1 : Q → post 1) (h0 : ¬ Q → post 0) :
    wY_isMove_43 post (nI w.length) (nI i) (nI x) (nI z) f lt si ro cd sg nd := by
  rw [wY_isMove_43]
  refine pk_eq x z (fun h => h0 (by rw [hQ]; omega)) (fun hne => ?_)
  have go : ¬ (0 < i ∧ x < w.getD (i - 1) 0 ∧ w.getD (i - 1) 0 ≤ z) → wY_isMove_86 post (nI w.length) (nI i) (nI x) (nI z) f lt si ro cd sg nd := by
    intro hb
    refine ym_86 hw hx hz ho hi hr (fun g => h1 ?_) (fun g => h0 ?_)
    · rw [hQ]; exact ⟨by omega, Or.inr g⟩
    · rw [hQ]; rintro ⟨_, z1 | z1⟩
      · exact hb z1
      · exact g z1
  refine pk_le i 0 (fun h => go (by omega)) (fun h => ?_)
  have h8 := ho _ (ls_getD_mem (l := w) (i := i - 1) (by omega))
  rw [ix_m1 (by omega)]
  refine ⟨vp_in_nI (by omega) (by decide), ?_⟩
  rw [nI_clamp (by omega), ar_0 hr (by omega)]
  refine pk_le (w.getD (i - 1) 0) x (fun h => go (by omega)) (fun g => ⟨vp_in_nI (by omega) (by decide), ?_⟩)
  refine pk_lt z (w.getD (i - 1) 0) (fun h => go (by omega)) (fun g2 => h1 ?_)
  rw [hQ]; exact ⟨by omega, Or.inl ⟨h, g, g2⟩⟩
theorem ym_wp {post : Int32 → Prop} {w : List Nat} {i : Nat} (hw : w.length ≤ 7) (ho : wd_ok w) (hi : i + 1 < w.length) (hr : ar_H ro 0 w) (h1 : mv_ok w i → post 1) (h0 : ¬ mv_ok w i → post 0) :
    wpY_isMove post (f, lt, si, ro, cd, sg, nd) (nI w.length) (nI i) := by
  have ha := ho _ (ls_getD_mem (l := w) (i := i) (by omega))
  have hb := ho _ (ls_getD_mem (l := w) (i := i + 1) (by omega))
  unfold wpY_isMove
  dsimp only
  rw [nI_1, nI_clamp (n := i) (by omega), nI_clamp (n := i + 1) (by omega), ar_0 hr (by omega), ar_0 hr hi]
  refine ⟨vp_in_nI (by omega) (by decide), nm_e ⟨vp_in_nI (by omega) (by decide), nm_e ?_⟩⟩
  refine pk_le (w.getD (i + 1) 0) (w.getD i 0) (fun h => ?_) (fun h => ?_)
  · rw [wY_isMove_29]
    refine br_t (nI_le h (by omega)) (ym_43 hw (by omega) (by omega) h ho hi hr (Q := mv_ok w i) ?_ h1 h0)
    unfold mv_ok mv_lo mv_hi
    rw [if_neg (by omega), if_neg (by omega)]
  · rw [wY_isMove_29]
    refine br_f (nI_ge h (by omega)) (ym_43 hw (by omega) (by omega) (by omega) ho hi hr (Q := mv_ok w i) ?_ h1 h0)
    unfold mv_ok mv_lo mv_hi
    rw [if_pos h, if_pos h]
end
section
variable {f : Int32} {cn wo en le lf ll tr ca co : Nat → Int32}
theorem xm_159 {post : Int32 → Prop} {x z : Nat} {b c : Int32} (hx : x < 8) (hz : z < 8) {B C : Prop} (hb : (B ∧ b = 1) ∨ (¬ B ∧ b = 0)) (hc : (C ∧ c = 1) ∨ (¬ C ∧ c = 0))
    (h1 : x < z ∧ (B ∨ C) → post 1) (h0 : ¬ (x < z ∧ (B ∨ C)) → post 0) : wX_mayMove_159 post (nI x) (nI z) b c f cn wo en le lf ll tr ca co := by
  rw [wX_mayMove_159]
  refine pk_le z x (fun h => h0 (by omega)) (fun h => ?_)
  rcases hb with ⟨hB, rfl⟩ | ⟨hB, rfl⟩
  · exact br_f (by decide) (h1 ⟨h, Or.inl hB⟩)
  · refine br_t rfl ?_
    rcases hc with ⟨hC, rfl⟩ | ⟨hC, rfl⟩
    · exact br_f (by decide) (h1 ⟨h, Or.inr hC⟩)
    · refine br_t rfl (h0 ?_)
      rintro ⟨_, z1 | z1⟩
      · exact hB z1
      · exact hC z1
theorem xm_114 {post : Int32 → Prop} {j : Nat} {w : List Nat} {i x z : Nat} {b : Int32} (hj : j < 2) (hw : w.length ≤ 7) (hx : x < 8) (hz : z < 8) (ho : wd_ok w) (hi : i + 1 < w.length) (hcn : cn j = nI w.length) (hwo : ar_H wo (7 * j) w) {B : Prop} (hb : (B ∧ b = 1) ∨ (¬ B ∧ b = 0))
    (h1 : x < z ∧ (B ∨ (i + 2 < w.length ∧ x ≤ w.getD (i + 2) 0 ∧ w.getD (i + 2) 0 < z)) → post 1) (h0 : ¬ (x < z ∧ (B ∨ (i + 2 < w.length ∧ x ≤ w.getD (i + 2) 0 ∧ w.getD (i + 2) 0 < z))) → post 0) :
    wX_mayMove_114 post (nI j) (nI i) (nI (7 * j + i)) (nI x) (nI z) b f cn wo en le lf ll tr ca co := by
  rw [wX_mayMove_114, ix_2, ix_2, nI_clamp (n := j) (by omega), hcn]
  refine ⟨vp_in_nI (by omega) (by decide), ?_⟩
  have no : ¬ (i + 2 < w.length ∧ x ≤ w.getD (i + 2) 0 ∧ w.getD (i + 2) 0 < z) → wX_mayMove_158 post (nI x) (nI z) b f cn wo en le lf ll tr ca co := by
    intro hn
    rw [wX_mayMove_158]
    exact xm_159 hx hz hb (Or.inr ⟨hn, rfl⟩) h1 h0
  refine pk_le w.length (i + 2) (fun h => no (by omega)) (fun h => ?_)
  have h8 := ho _ (ls_getD_mem h)
  have e := hwo (i + 2) h
  rw [← Nat.add_assoc] at e
  rw [nI_clamp (by omega), e]
  refine ⟨vp_in_nI (by omega) (by decide), pk_lt (w.getD (i + 2) 0) x (fun g => no (by omega)) (fun g => ⟨vp_in_nI (by omega) (by decide), pk_le z (w.getD (i + 2) 0) (fun g2 => no (by omega)) (fun g2 => xm_159 hx hz hb (Or.inl ⟨⟨h, g, g2⟩, rfl⟩) h1 h0)⟩)⟩
theorem xm_77 {post : Int32 → Prop} {j : Nat} {w : List Nat} {i x z : Nat} (hj : j < 2) (hw : w.length ≤ 7) (hx : x < 8) (hz : z < 8) (ho : wd_ok w) (hi : i + 1 < w.length) (hcn : cn j = nI w.length) (hwo : ar_H wo (7 * j) w)
    (h1 : x < z ∧ ((0 < i ∧ x < w.getD (i - 1) 0 ∧ w.getD (i - 1) 0 ≤ z) ∨ (i + 2 < w.length ∧ x ≤ w.getD (i + 2) 0 ∧ w.getD (i + 2) 0 < z)) → post 1) (h0 : ¬ (x < z ∧ ((0 < i ∧ x < w.getD (i - 1) 0 ∧ w.getD (i - 1) 0 ≤ z) ∨ (i + 2 < w.length ∧ x ≤ w.getD (i + 2) 0 ∧ w.getD (i + 2) 0 < z))) → post 0) :
    wX_mayMove_77 post (nI j) (nI i) (nI (7 * j + i)) (nI x) (nI z) f cn wo en le lf ll tr ca co := by
  rw [wX_mayMove_77]
  have no : ¬ (0 < i ∧ x < w.getD (i - 1) 0 ∧ w.getD (i - 1) 0 ≤ z) → wX_mayMove_113 post (nI j) (nI i) (nI (7 * j + i)) (nI x) (nI z) f cn wo en le lf ll tr ca co := by
    intro hn
    rw [wX_mayMove_113]
    exact xm_114 hj hw hx hz ho hi hcn hwo (Or.inr ⟨hn, rfl⟩) h1 h0
  refine pk_le i 0 (fun h => no (by omega)) (fun h => ?_)
  have h8 := ho _ (ls_getD_mem (l := w) (i := i - 1) (by omega))
  have e := hwo (i - 1) (by omega)
  have e2 : 7 * j + (i - 1) = 7 * j + i - 1 := by omega
  rw [e2] at e
  rw [ix_m1 (by omega), nI_clamp (by omega), e]
  exact ⟨vp_in_nI (by omega) (by decide), pk_le (w.getD (i - 1) 0) x (fun g => no (by omega)) (fun g => ⟨vp_in_nI (by omega) (by decide), pk_lt z (w.getD (i - 1) 0) (fun g2 => no (by omega)) (fun g2 => xm_114 hj hw hx hz ho hi hcn hwo (Or.inl ⟨⟨h, g, g2⟩, rfl⟩) h1 h0)⟩)⟩
theorem xm_wp {post : Int32 → Prop} {j : Nat} {w : List Nat} {i : Nat} (hj : j < 2) (hw : w.length ≤ 7) (ho : wd_ok w) (hi : i + 1 < w.length) (hcn : cn j = nI w.length) (hwo : ar_H wo (7 * j) w) (h1 : mv_ok w i → post 1) (h0 : ¬ mv_ok w i → post 0) :
    wpX_mayMove post (f, cn, wo, en, le, lf, ll, tr, ca, co) (nI j) (nI i) := by
  have ha := ho _ (ls_getD_mem (l := w) (i := i) (by omega))
  have hb := ho _ (ls_getD_mem (l := w) (i := i + 1) (by omega))
  have e0 := hwo i (by omega)
  have e1 := hwo (i + 1) hi
  rw [← Nat.add_assoc] at e1
  unfold wpX_mayMove
  dsimp only
  refine nm_r (ix_7 j i) ?_
  rw [nI_1, nI_clamp (n := 7 * j + i) (by omega), nI_clamp (n := 7 * j + i + 1) (by omega), e0, e1]
  refine ⟨vp_in_nI (by omega) (by decide), vp_in_nI (by omega) (by decide), ?_⟩
  unfold mv_ok mv_lo mv_hi at h1 h0
  refine pk_le (w.getD (i + 1) 0) (w.getD i 0) (fun h => ⟨vp_in_nI (by omega) (by decide), ?_⟩) (fun h => ⟨vp_in_nI (by omega) (by decide), ?_⟩)
  · rw [if_neg (by omega), if_neg (by omega)] at h1 h0
    rw [wX_mayMove_41, nI_1, nI_clamp (n := 7 * j + i) (by omega), nI_clamp (n := 7 * j + i + 1) (by omega), e0, e1]
    exact ⟨vp_in_nI (by omega) (by decide), vp_in_nI (by omega) (by decide), br_t (nI_le h (by omega)) ⟨vp_in_nI (by omega) (by decide), xm_77 hj hw (by omega) (by omega) ho hi hcn hwo h1 h0⟩⟩
  · rw [if_pos h, if_pos h] at h1 h0
    rw [wX_mayMove_41, nI_1, nI_clamp (n := 7 * j + i) (by omega), nI_clamp (n := 7 * j + i + 1) (by omega), e0, e1]
    exact ⟨vp_in_nI (by omega) (by decide), vp_in_nI (by omega) (by decide), br_f (nI_ge h (by omega)) ⟨vp_in_nI (by omega) (by decide), xm_77 hj hw (by omega) (by omega) ho hi hcn hwo h1 h0⟩⟩
end
end
section
/-! the relation; exchanges in the arrays -/
def wo_fr (a a' : Nat → Int32) (j : Nat) : Prop := ∀ q, (q < 7 * j ∨ 7 * j + 7 ≤ q) → a' q = a q
theorem wo_fr_r (a : Nat → Int32) (j : Nat) : wo_fr a a j := fun _ _ => rfl
theorem wo_fr_t {a a' a2 : Nat → Int32} {j : Nat} (h : wo_fr a a' j) (g : wo_fr a' a2 j) : wo_fr a a2 j := fun q hq => (g q hq).trans (h q hq)
theorem wo_fr_u {a : Nat → Int32} {j k : Nat} {v : Int32} (h : 7 * j ≤ k ∧ k < 7 * j + 7) : wo_fr a (upd a k v) j := fun q hq => pk_un (by omega)
def rl_W (W : Nat → List Nat) : Prop := ∀ j, j < 2 → (W j).length ≤ 7 ∧ wd_ok (W j)
def rl_X (cn wo en le : Nat → Int32) (W : Nat → List Nat) : Prop := ∀ j, j < 2 → cn j = nI (W j).length ∧ ar_H wo (7 * j) (W j) ∧ tA_H en le j (tb_W (W j))
def rl_Y (lt si : Nat → Int32) (W : Nat → List Nat) : Prop := ∀ j, j < 2 → si j = nI (W j).length ∧ ar_H lt (7 * j) (W j)
def rl_set (W : Nat → List Nat) (j : Nat) (w : List Nat) : Nat → List Nat := fun q => if q = j then w else W q
theorem rl_set_s (W : Nat → List Nat) (j : Nat) (w : List Nat) : rl_set W j w j = w := if_pos rfl
theorem rl_set_n (W : Nat → List Nat) {j q : Nat} (w : List Nat) (h : q ≠ j) : rl_set W j w q = W q := if_neg h
theorem rl_W_set {W : Nat → List Nat} {j : Nat} {w : List Nat} (h : rl_W W) (h7 : w.length ≤ 7) (ho : wd_ok w) : rl_W (rl_set W j w) := by
  intro q hq
  by_cases c : q = j
  · rw [c, rl_set_s]; exact ⟨h7, ho⟩
  · rw [rl_set_n W w c]; exact h q hq
theorem rl_X_set {cn wo en le cn' wo' en' le' : Nat → Int32} {W : Nat → List Nat} {j : Nat} {w : List Nat} (hW : rl_W W) (h : rl_X cn wo en le W) (hc : cn' j = nI w.length) (hcn : ∀ q, q ≠ j → cn' q = cn q)
    (hw : ar_H wo' (7 * j) w) (hwf : wo_fr wo wo' j) (ht : tA_H en' le' j (tb_W w)) (htf : tA_fr en le en' le' j) : rl_X cn' wo' en' le' (rl_set W j w) := by
  intro q hq
  by_cases c : q = j
  · rw [c, rl_set_s]; exact ⟨hc, hw, ht⟩
  · rw [rl_set_n W w c]
    obtain ⟨h1, h2, h3⟩ := h q hq
    have h7 := (hW q hq).1
    exact ⟨by rw [hcn q c]; exact h1, ar_cong h2 (fun i hi => hwf _ (by omega)), tA_other htf c h3⟩
theorem rl_Y_set {lt si lt' si' : Nat → Int32} {W : Nat → List Nat} {j : Nat} {w : List Nat} (hW : rl_W W) (h : rl_Y lt si W) (hc : si' j = nI w.length) (hcn : ∀ q, q ≠ j → si' q = si q)
    (hw : ar_H lt' (7 * j) w) (hwf : wo_fr lt lt' j) : rl_Y lt' si' (rl_set W j w) := by
  intro q hq
  by_cases c : q = j
  · rw [c, rl_set_s]; exact ⟨hc, hw⟩
  · rw [rl_set_n W w c]
    obtain ⟨h1, h2⟩ := h q hq
    have h7 := (hW q hq).1
    exact ⟨by rw [hcn q c]; exact h1, ar_cong h2 (fun i hi => hwf _ (by omega))⟩
/-- both states hold the same two words; the component holds their rows -/
def i_Rel (_ : Nat) (u : SX) (v : SY) : Prop := ∃ W : Nat → List Nat, rl_W W ∧ rl_X u.2.1 u.2.2.1 u.2.2.2.1 u.2.2.2.2.1 W ∧ rl_Y v.2.1 v.2.2.1 W
theorem i_up {k : Nat} {u : SX} {v : SY} (h : i_Rel k u v) : i_Rel (k + 3) u v := h
theorem i_vc0 : wpX_init (fun u => wpY_init (fun v => i_Rel 0 u v)) := by
  refine ⟨fun _ => [], fun j _ => ⟨Nat.zero_le _, fun x h => by cases h⟩, fun j hj => ⟨rfl, ar_nil _ _, tb_W_len _, fun r hr => ?_⟩, fun j hj => ⟨rfl, ar_nil _ _⟩⟩
  show (0 : Int32) = nI (tb_0.getD r []).length ∧ ar_H _ _ (tb_0.getD r []) ∧ (tb_0.getD r []).length ≤ 7
  rw [tb_0_get]
  exact ⟨rfl, ar_nil _ _, Nat.zero_le _⟩
/-- the places i and i + 1 exchanged -/
theorem ar_sw {a : Nat → Int32} {o i : Nat} {w : List Nat} (h : ar_H a o w) (hi : i + 1 < w.length) : ar_H (upd (upd a (o + i) (nI (w.getD (i + 1) 0))) (o + i + 1) (nI (w.getD i 0))) o (mv_sw w i) := by
  intro q hq
  rw [mv_sw_len w hi] at hq
  rw [mv_sw_get w hi]
  by_cases c : q = i
  · rw [if_pos c, pk_un (by omega), c, pk_us]
  · rw [if_neg c]
    by_cases d : q = i + 1
    · rw [if_pos d, d, ← Nat.add_assoc, pk_us]
    · rw [if_neg d, pk_un (by omega), pk_un (by omega)]
      exact h q hq
section
variable {f : Int32} {cn wo en le lf ll tr ca co : Nat → Int32}
theorem xs_wp {post : SX → Prop} {j : Nat} {w : List Nat} {i : Nat} (hj : j < 2) (hw : w.length ≤ 7) (ho : wd_ok w) (hi : i + 1 < w.length) (hwo : ar_H wo (7 * j) w)
    (hp : ∀ wo', ar_H wo' (7 * j) (mv_sw w i) → wo_fr wo wo' j → post (f, cn, wo', en, le, lf, ll, tr, ca, co)) : wpX_swap post (f, cn, wo, en, le, lf, ll, tr, ca, co) (nI j) (nI i) := by
  have ha := ho _ (ls_getD_mem (l := w) (i := i) (by omega))
  have hb := ho _ (ls_getD_mem (l := w) (i := i + 1) (by omega))
  have e0 := hwo i (by omega)
  have e1 := hwo (i + 1) hi
  rw [← Nat.add_assoc] at e1
  unfold wpX_swap
  dsimp only
  refine nm_r (ix_7 j i) ?_
  rw [nI_1, nI_clamp (n := 7 * j + i) (by omega), nI_clamp (n := 7 * j + i + 1) (by omega), e0, e1]
  refine ⟨vp_in_nI (by omega) (by decide), nm_e ⟨vp_in_nI (by omega) (by decide), vp_in_nI (by omega) (by decide), nm_e ⟨vp_in_nI (by omega) (by decide), nm_e ?_⟩⟩⟩
  rw [ix_n _ (by omega), ix_n _ (by omega)]
  exact hp _ (ar_sw hwo hi) (wo_fr_t (wo_fr_u (by omega)) (wo_fr_u (by omega)))
end
section
variable {f : Int32} {lt si ro cd sg nd : Nat → Int32}
theorem ys_wp {post : SY → Prop} {j : Nat} {w : List Nat} {i : Nat} (hj : j < 2) (hw : w.length ≤ 7) (hi : i + 1 < w.length) (hwo : ar_H lt (7 * j) w)
    (hp : ∀ lt', ar_H lt' (7 * j) (mv_sw w i) → wo_fr lt lt' j → post (f, lt', si, ro, cd, sg, nd)) : wpY_swap post (f, lt, si, ro, cd, sg, nd) (nI j) (nI i) := by
  have e0 := hwo i (by omega)
  have e1 := hwo (i + 1) hi
  rw [← Nat.add_assoc] at e1
  unfold wpY_swap
  dsimp only
  rw [ix_7, nI_1, nI_clamp (n := 7 * j + i) (by omega), nI_clamp (n := 7 * j + i + 1) (by omega), e0, e1]
  refine ⟨vp_in_nI (by omega) (by decide), nm_e ⟨vp_in_nI (by omega) (by decide), vp_in_nI (by omega) (by decide), nm_e ⟨vp_in_nI (by omega) (by decide), nm_e ?_⟩⟩⟩
  exact hp _ (ar_sw hwo hi) (wo_fr_t (wo_fr_u (by omega)) (wo_fr_u (by omega)))
end
theorem mv_sw_ok {w : List Nat} {i : Nat} (h : wd_ok w) (hi : i + 1 < w.length) : wd_ok (mv_sw w i) := by
  intro x hx
  rw [mv_sw_cut hi] at hx
  have : x ∈ w := by
    rw [ls_cut2 hi]
    simp only [List.mem_append, List.mem_cons] at hx ⊢
    rcases hx with e | e | e | e
    · exact Or.inl e
    · exact Or.inr (Or.inr (Or.inl e))
    · exact Or.inr (Or.inl e)
    · exact Or.inr (Or.inr (Or.inr e))
  exact h x this
/-- letters of a call -/
theorem ix_letter {x : Int32} (h1 : ¬ x < 1) (h7 : x ≤ 7) : ∃ n : Nat, 1 ≤ n ∧ n ≤ 7 ∧ x = nI n := by
  have h0 : ¬ x < 0 := by
    intro z
    apply h1
    rw [Int32.lt_iff_toInt_lt] at z ⊢
    have e0 : (0 : Int32).toInt = 0 := by decide
    have e1 : (1 : Int32).toInt = 1 := by decide
    omega
  obtain ⟨n, hn, rfl⟩ := nI_of2 (M := 7) (n := 7) (by decide) h0 h7
  refine ⟨n, ?_, hn, rfl⟩
  have h1' : ¬ nI n < nI 1 := h1
  rw [nI_ltI (by omega) (by decide)] at h1'
  omega
theorem i_vc_add {k : Nat} {u : SX} {v : SY} (I : i_Rel k u v) (hk : k + 3 ≤ 1536) (v1 : Int32) (v2 : Int32) : wpX_add (fun r u' => wpY_add (fun r' v' => r' = r ∧ i_Rel (k + 3) u' v') v v1 v2) u v1 v2 := by
  obtain ⟨f, cn, wo, en, le, lf, ll, tr, ca, co⟩ := u
  obtain ⟨g, lt, si, ro, cd, sg, nd⟩ := v
  have I0 := I
  obtain ⟨W, hW, hX, hY⟩ := I
  unfold wpX_add
  dsimp only
  rcases ix_word v1 with hb | ⟨j, hj, rfl⟩
  · refine xb_bad hb (br_f (by decide) ?_)
    unfold wpY_add
    exact yb_bad hb (br_f (by decide) ⟨rfl, I0⟩)
  · refine xb_ok hj (br_t rfl ?_)
    by_cases h1 : v2 < 1
    · refine br_t h1 ?_
      unfold wpY_add
      exact yb_ok hj (br_t rfl (br_t h1 ⟨rfl, I0⟩))
    · refine br_f h1 ?_
      by_cases h7 : v2 ≤ 7
      · obtain ⟨x, hx1, hx7, rfl⟩ := ix_letter h1 h7
        obtain ⟨c1, c2, c3⟩ := hX j hj
        obtain ⟨d1, d2⟩ := hY j hj
        obtain ⟨w7, wok⟩ := hW j hj
        dsimp only at c1 c2 c3 d1 d2
        refine br_t h7 ⟨vp_in_nI hj (by decide), ?_⟩
        rw [nI_clamp (n := j) (by omega), c1]
        refine pk_eq (W j).length 7 (fun hf => ?_) (fun hf => ?_)
        · unfold wpY_add
          dsimp only
          refine yb_ok hj (br_t rfl (br_f h1 (br_t h7 ⟨vp_in_nI hj (by decide), ?_⟩)))
          rw [nI_clamp (n := j) (by omega), d1]
          exact br_t (by rw [hf]; rfl) ⟨rfl, I0⟩
        · have h6 : (W j).length ≤ 6 := by omega
          rw [ix_7, nI_clamp (n := 7 * j + (W j).length) (by omega), ix_nb x (by omega), nI_1, ix_nb _ (by omega)]
          have wok' : wd_ok (W j ++ [x]) := by
            intro y hy
            rcases List.mem_append.mp hy with e | e
            · exact wok y e
            · have := List.mem_singleton.mp e; omega
          refine ⟨vp_in_nI hj (by decide), vp_in_nI (by omega) (by decide), nm_e ⟨vp_in_nI hj (by decide), vp_in_nI hj (by decide), nm_e ?_⟩⟩
          refine xi_wp hj c3 (fun q _ => ?_) (tb_W_8 w7 wok) (by omega) (tb_W_room (by omega)) (fun en' le' rr ht hf' => ?_)
          · have := tb_W_le w7 q; omega
          · refine ⟨vp_in_nI hj (by decide), ?_⟩
            dsimp only
            rw [pk_us]
            unfold wpY_add
            dsimp only
            refine yb_ok hj (br_t rfl (br_f h1 (br_t h7 ⟨vp_in_nI hj (by decide), ?_⟩)))
            rw [nI_clamp (n := j) (by omega), d1, ix_7, nI_clamp (n := 7 * j + (W j).length) (by omega), nI_1]
            refine br_f (fun z => hf ((nI_eq (by omega) (by decide)).mp z)) ⟨vp_in_nI hj (by decide), vp_in_nI (by omega) (by decide), nm_e ⟨vp_in_nI hj (by decide), vp_in_nI hj (by decide), nm_e ⟨vp_in_nI hj (by decide), ?_⟩⟩⟩
            rw [pk_us]
            refine ⟨rfl, rl_set W j (W j ++ [x]), rl_W_set hW (by rw [List.length_append]; simp; omega) wok', ?_, ?_⟩
            · refine rl_X_set hW hX (by dsimp only; rw [pk_us, List.length_append]; rfl) (fun q hq => pk_un hq) (ar_snoc c2) (wo_fr_u (by omega)) ?_ hf'
              rw [tb_W_snoc]; exact ht
            · exact rl_Y_set hW hY (by dsimp only; rw [pk_us, List.length_append]; rfl) (fun q hq => pk_un hq) (ar_snoc d2) (wo_fr_u (by omega))
      · refine br_f h7 ?_
        unfold wpY_add
        exact yb_ok hj (br_t rfl (br_f h1 (br_f h7 ⟨rfl, I0⟩)))
end
section
/-! drop, exchange, move, letter -/
theorem ix_le7 {n : Nat} (h : n ≤ 7) : n < 2 ^ 31 := by omega
theorem i_vc_drop {k : Nat} {u : SX} {v : SY} (I : i_Rel k u v) (hk : k + 3 ≤ 1536) (v1 : Int32) : wpX_drop (fun r u' => wpY_drop (fun r' v' => r' = r ∧ i_Rel (k + 3) u' v') v v1) u v1 := by
  obtain ⟨f, cn, wo, en, le, lf, ll, tr, ca, co⟩ := u
  obtain ⟨g, lt, si, ro, cd, sg, nd⟩ := v
  have I0 := I
  obtain ⟨W, hW, hX, hY⟩ := I
  unfold wpX_drop
  dsimp only
  rcases ix_word v1 with hb | ⟨j, hj, rfl⟩
  · refine xb_bad hb (br_f (by decide) ?_)
    unfold wpY_drop
    exact yb_bad hb (br_f (by decide) ⟨rfl, I0⟩)
  · obtain ⟨c1, c2, c3⟩ := hX j hj
    obtain ⟨d1, d2⟩ := hY j hj
    obtain ⟨w7, wok⟩ := hW j hj
    dsimp only at c1 c2 c3 d1 d2
    refine xb_ok hj (br_t rfl ⟨vp_in_nI hj (by decide), ?_⟩)
    rw [nI_clamp (n := j) (by omega), c1]
    refine pk_eq (W j).length 0 (fun hf => ?_) (fun hf => ?_)
    · unfold wpY_drop
      dsimp only
      refine yb_ok hj (br_t rfl ⟨vp_in_nI hj (by decide), ?_⟩)
      rw [nI_clamp (n := j) (by omega), d1]
      exact br_t (by rw [hf]; rfl) ⟨rfl, I0⟩
    · rw [ix_m1 (by omega), ix_nb _ (by omega)]
      refine ⟨vp_in_nI hj (by decide), vp_in_nI hj (by decide), nm_e ⟨vp_in_nI hj (by decide), ?_⟩⟩
      rw [pk_us]
      have hg : (W j).length - 1 < (W j).length := by omega
      have htl : ((W j).take ((W j).length - 1)).length = (W j).length - 1 := by rw [List.length_take]; omega
      refine xr_wp hj w7 (by omega) wok c2 (fun en' le' ht hf' => ?_)
      dsimp only
      rw [pk_us, ix_7, nI_clamp (n := 7 * j + ((W j).length - 1)) (by omega), c2 _ hg]
      refine ⟨vp_in_nI hj (by decide), vp_in_nI (by omega) (by decide), ?_⟩
      unfold wpY_drop
      dsimp only
      refine yb_ok hj (br_t rfl ⟨vp_in_nI hj (by decide), ?_⟩)
      rw [nI_clamp (n := j) (by omega), d1]
      refine br_f (fun z => hf ((nI_eq (by omega) (by decide)).mp z)) ⟨vp_in_nI hj (by decide), vp_in_nI hj (by decide), ?_⟩
      rw [ix_m1 (by omega)]
      refine nm_e ⟨vp_in_nI hj (by decide), ?_⟩
      rw [pk_us, ix_7, nI_clamp (n := 7 * j + ((W j).length - 1)) (by omega), d2 _ hg]
      refine ⟨vp_in_nI (by omega) (by decide), rfl, rl_set W j ((W j).take ((W j).length - 1)), rl_W_set hW (by omega) (wd_take wok _), ?_, ?_⟩
      · exact rl_X_set hW hX (by dsimp only; rw [pk_us, htl]) (fun q hq => pk_un hq) (ar_tk c2) (wo_fr_r _ _) ht hf'
      · exact rl_Y_set hW hY (by dsimp only; rw [pk_us, htl]) (fun q hq => pk_un hq) (ar_tk d2) (wo_fr_r _ _)
theorem ix_pair (x : Int32) {n : Nat} (hn : n ≤ 7) : (∃ i, i + 1 < n ∧ x = nI i) ∨ (x < 0 ∨ (¬ x < 0 ∧ ¬ x < nI n - 1)) := by
  by_cases c : x < 0
  · exact Or.inr (Or.inl c)
  · obtain ⟨i, hi, rfl⟩ := nI_of c
    by_cases d : i + 1 < n
    · exact Or.inl ⟨i, d, rfl⟩
    · refine Or.inr (Or.inr ⟨c, fun z => ?_⟩)
      have z' : nI i < nI n - nI 1 := z
      rw [Int32.lt_iff_toInt_lt, nI_toInt hi, pk_sub_toInt (by omega) (by omega)] at z'
      omega
theorem ix_pair_ok {i n : Nat} (h : i + 1 < n) (hn : n ≤ 7) : ¬ nI i < 0 ∧ nI i < nI n - 1 := by
  refine ⟨nI_pos (by omega), ?_⟩
  rw [ix_m1 (by omega)]
  exact nI_lt (by omega) (by omega)
theorem xn_bad {post : Int32 → Prop} {f : Int32} {cn wo en le lf ll tr ca co : Nat → Int32} {j n : Nat} {x : Int32} (hj : j < 2) (hc : cn j = nI n) (h : x < 0 ∨ (¬ x < 0 ∧ ¬ x < nI n - 1)) (hp : post 1) : wpX_noPair post (f, cn, wo, en, le, lf, ll, tr, ca, co) (nI j) x := by
  unfold wpX_noPair
  dsimp only
  rw [nI_clamp (n := j) (by omega), hc]
  rcases h with h | h
  · exact br_t h hp
  · exact br_f h.1 ⟨vp_in_nI hj (by decide), br_f h.2 hp⟩
theorem xn_ok {post : Int32 → Prop} {f : Int32} {cn wo en le lf ll tr ca co : Nat → Int32} {j n i : Nat} (hj : j < 2) (hc : cn j = nI n) (hn : n ≤ 7) (h : i + 1 < n) (hp : post 0) : wpX_noPair post (f, cn, wo, en, le, lf, ll, tr, ca, co) (nI j) (nI i) := by
  unfold wpX_noPair
  dsimp only
  rw [nI_clamp (n := j) (by omega), hc]
  exact br_f (ix_pair_ok h hn).1 ⟨vp_in_nI hj (by decide), br_t (ix_pair_ok h hn).2 hp⟩
theorem yn_bad {post : Int32 → Prop} {f : Int32} {lt si ro cd sg nd : Nat → Int32} {j n : Nat} {x : Int32} (hj : j < 2) (hc : si j = nI n) (h : x < 0 ∨ (¬ x < 0 ∧ ¬ x < nI n - 1)) (hp : post 1) : wpY_noPlaces post (f, lt, si, ro, cd, sg, nd) (nI j) x := by
  unfold wpY_noPlaces
  dsimp only
  rw [nI_clamp (n := j) (by omega), hc]
  rcases h with h | h
  · exact br_t h hp
  · exact br_f h.1 ⟨vp_in_nI hj (by decide), br_f h.2 hp⟩
theorem yn_ok {post : Int32 → Prop} {f : Int32} {lt si ro cd sg nd : Nat → Int32} {j n i : Nat} (hj : j < 2) (hc : si j = nI n) (hn : n ≤ 7) (h : i + 1 < n) (hp : post 0) : wpY_noPlaces post (f, lt, si, ro, cd, sg, nd) (nI j) (nI i) := by
  unfold wpY_noPlaces
  dsimp only
  rw [nI_clamp (n := j) (by omega), hc]
  exact br_f (ix_pair_ok h hn).1 ⟨vp_in_nI hj (by decide), br_t (ix_pair_ok h hn).2 hp⟩
theorem i_vc_exchange {k : Nat} {u : SX} {v : SY} (I : i_Rel k u v) (hk : k + 3 ≤ 1536) (v1 : Int32) (v2 : Int32) : wpX_exchange (fun r u' => wpY_exchange (fun r' v' => r' = r ∧ i_Rel (k + 3) u' v') v v1 v2) u v1 v2 := by
  obtain ⟨f, cn, wo, en, le, lf, ll, tr, ca, co⟩ := u
  obtain ⟨g, lt, si, ro, cd, sg, nd⟩ := v
  have I0 := I
  obtain ⟨W, hW, hX, hY⟩ := I
  unfold wpX_exchange
  dsimp only
  rcases ix_word v1 with hb | ⟨j, hj, rfl⟩
  · refine xb_bad hb (br_f (by decide) ?_)
    unfold wpY_exchange
    exact yb_bad hb (br_f (by decide) ⟨rfl, I0⟩)
  · obtain ⟨c1, c2, c3⟩ := hX j hj
    obtain ⟨d1, d2⟩ := hY j hj
    obtain ⟨w7, wok⟩ := hW j hj
    dsimp only at c1 c2 c3 d1 d2
    refine xb_ok hj (br_t rfl ?_)
    rcases ix_pair v2 w7 with ⟨i, hi, rfl⟩ | hb
    · refine xn_ok hj c1 w7 hi (br_t rfl ?_)
      have hl := mv_sw_len (W j) hi
      have hok := mv_sw_ok wok hi
      by_cases hm : mv_ok (W j) i
      · refine xm_wp hj w7 wok hi c1 c2 (fun _ => ?_) (fun z => absurd hm z)
        refine xs_wp hj w7 wok hi c2 (fun wo' hw' hwf => ?_)
        dsimp only
        refine br_f (by decide) ?_
        rw [wX_exchange_50]
        refine br_f (by decide) ?_
        unfold wpY_exchange
        dsimp only
        refine yb_ok hj (br_t rfl (yn_ok hj d1 w7 hi (br_t rfl (yt_wp hj w7 d1 d2 (fun ro' hr => ?_)))))
        dsimp only
        refine ym_wp w7 wok hi hr (fun _ => ?_) (fun z => absurd hm z)
        refine ys_wp hj w7 hi d2 (fun lt' hl' hlf => ?_)
        dsimp only
        refine br_f (by decide) ⟨rfl, rl_set W j (mv_sw (W j) i), rl_W_set hW (by omega) hok, ?_, ?_⟩
        · refine rl_X_set hW hX (by rw [hl]; exact c1) (fun _ _ => rfl) hw' hwf ?_ (tA_fr_r _ _ _)
          rw [← tb_W_eq (mv_kn hi hm)]; exact c3
        · exact rl_Y_set hW hY (by rw [hl]; exact d1) (fun _ _ => rfl) hl' hlf
      · refine xm_wp hj w7 wok hi c1 c2 (fun z => absurd z hm) (fun _ => ?_)
        refine xs_wp hj w7 wok hi c2 (fun wo' hw' hwf => ?_)
        dsimp only
        rw [nI_clamp (n := j) (by omega), c1, ← hl]
        refine br_t rfl ⟨vp_in_nI hj (by decide), xr_wp hj (by omega) (by omega) hok hw' (fun en' le' ht hf' => ?_)⟩
        rw [List.take_length] at ht
        dsimp only
        rw [wX_exchange_50]
        refine br_t rfl ?_
        unfold wpY_exchange
        dsimp only
        refine yb_ok hj (br_t rfl (yn_ok hj d1 w7 hi (br_t rfl (yt_wp hj w7 d1 d2 (fun ro' hr => ?_)))))
        dsimp only
        refine ym_wp w7 wok hi hr (fun z => absurd z hm) (fun _ => ?_)
        refine ys_wp hj w7 hi d2 (fun lt' hl' hlf => ?_)
        dsimp only
        refine br_t rfl ⟨rfl, rl_set W j (mv_sw (W j) i), rl_W_set hW (by omega) hok, ?_, ?_⟩
        · exact rl_X_set hW hX (by rw [hl]; exact c1) (fun _ _ => rfl) hw' hwf ht hf'
        · exact rl_Y_set hW hY (by rw [hl]; exact d1) (fun _ _ => rfl) hl' hlf
    · refine xn_bad hj c1 hb (br_f (by decide) ?_)
      unfold wpY_exchange
      dsimp only
      exact yb_ok hj (br_t rfl (yn_bad hj d1 hb (br_f (by decide) ⟨rfl, I0⟩)))
theorem i_vc_move {k : Nat} {u : SX} {v : SY} (I : i_Rel k u v) (hk : k + 3 ≤ 1536) (v1 : Int32) (v2 : Int32) : wpX_move (fun r u' => wpY_move (fun r' v' => r' = r ∧ i_Rel (k + 3) u' v') v v1 v2) u v1 v2 := by
  obtain ⟨f, cn, wo, en, le, lf, ll, tr, ca, co⟩ := u
  obtain ⟨g, lt, si, ro, cd, sg, nd⟩ := v
  have I0 := I
  obtain ⟨W, hW, hX, hY⟩ := I
  unfold wpX_move
  dsimp only
  rcases ix_word v1 with hb | ⟨j, hj, rfl⟩
  · refine xb_bad hb (br_f (by decide) ?_)
    unfold wpY_move
    exact yb_bad hb (br_f (by decide) ⟨rfl, I0⟩)
  · obtain ⟨c1, c2, c3⟩ := hX j hj
    obtain ⟨d1, d2⟩ := hY j hj
    obtain ⟨w7, wok⟩ := hW j hj
    dsimp only at c1 c2 c3 d1 d2
    refine xb_ok hj (br_t rfl ?_)
    rcases ix_pair v2 w7 with ⟨i, hi, rfl⟩ | hb
    · refine xn_ok hj c1 w7 hi (br_t rfl ?_)
      have hl := mv_sw_len (W j) hi
      have hok := mv_sw_ok wok hi
      by_cases hm : mv_ok (W j) i
      · refine xm_wp hj w7 wok hi c1 c2 (fun _ => br_f (by decide) ?_) (fun z => absurd hm z)
        refine xs_wp hj w7 wok hi c2 (fun wo' hw' hwf => ?_)
        unfold wpY_move
        dsimp only
        refine yb_ok hj (br_t rfl (yn_ok hj d1 w7 hi (br_t rfl (yt_wp hj w7 d1 d2 (fun ro' hr => ?_)))))
        dsimp only
        refine ym_wp w7 wok hi hr (fun _ => br_f (by decide) ?_) (fun z => absurd hm z)
        refine ys_wp hj w7 hi d2 (fun lt' hl' hlf => ?_)
        refine ⟨rfl, rl_set W j (mv_sw (W j) i), rl_W_set hW (by omega) hok, ?_, ?_⟩
        · refine rl_X_set hW hX (by rw [hl]; exact c1) (fun _ _ => rfl) hw' hwf ?_ (tA_fr_r _ _ _)
          rw [← tb_W_eq (mv_kn hi hm)]; exact c3
        · exact rl_Y_set hW hY (by rw [hl]; exact d1) (fun _ _ => rfl) hl' hlf
      · refine xm_wp hj w7 wok hi c1 c2 (fun z => absurd z hm) (fun _ => br_t rfl ?_)
        unfold wpY_move
        dsimp only
        refine yb_ok hj (br_t rfl (yn_ok hj d1 w7 hi (br_t rfl (yt_wp hj w7 d1 d2 (fun ro' hr => ?_)))))
        dsimp only
        refine ym_wp w7 wok hi hr (fun z => absurd z hm) (fun _ => br_t rfl ⟨rfl, I0⟩)
    · refine xn_bad hj c1 hb (br_f (by decide) ?_)
      unfold wpY_move
      dsimp only
      exact yb_ok hj (br_t rfl (yn_bad hj d1 hb (br_f (by decide) ⟨rfl, I0⟩)))
theorem i_vc_letter {k : Nat} {u : SX} {v : SY} (I : i_Rel k u v) (hk : k + 3 ≤ 1536) (v1 : Int32) (v2 : Int32) : wpX_letter (fun r => wpY_letter (fun r' => r' = r ∧ i_Rel (k + 3) u v) v v1 v2) u v1 v2 := by
  obtain ⟨f, cn, wo, en, le, lf, ll, tr, ca, co⟩ := u
  obtain ⟨g, lt, si, ro, cd, sg, nd⟩ := v
  have I0 := I
  obtain ⟨W, hW, hX, hY⟩ := I
  unfold wpX_letter
  dsimp only
  rcases ix_word v1 with hb | ⟨j, hj, rfl⟩
  · refine xb_bad hb (br_f (by decide) ?_)
    unfold wpY_letter
    exact yb_bad hb (br_f (by decide) ⟨rfl, I0⟩)
  · obtain ⟨c1, c2, c3⟩ := hX j hj
    obtain ⟨d1, d2⟩ := hY j hj
    obtain ⟨w7, wok⟩ := hW j hj
    dsimp only at c1 c2 c3 d1 d2
    refine xb_ok hj (br_t rfl ?_)
    by_cases h0 : v2 < 0
    · refine br_t h0 ?_
      unfold wpY_letter
      exact yb_ok hj (br_t rfl (br_t h0 ⟨rfl, I0⟩))
    · obtain ⟨i, hi, rfl⟩ := nI_of h0
      refine br_f h0 ⟨vp_in_nI hj (by decide), ?_⟩
      rw [nI_clamp (n := j) (by omega), c1]
      refine pk_lt i (W j).length (fun h => ?_) (fun h => ?_)
      · rw [ix_7, nI_clamp (by omega), c2 i h]
        refine ⟨vp_in_nI (by omega) (by decide), ?_⟩
        unfold wpY_letter
        dsimp only
        refine yb_ok hj (br_t rfl (br_f h0 ⟨vp_in_nI hj (by decide), ?_⟩))
        rw [nI_clamp (n := j) (by omega), d1, ix_7, nI_clamp (by omega), d2 i h]
        exact br_t (nI_lt h (by omega)) ⟨vp_in_nI (by omega) (by decide), rfl, I0⟩
      · unfold wpY_letter
        dsimp only
        refine yb_ok hj (br_t rfl (br_f h0 ⟨vp_in_nI hj (by decide), ?_⟩))
        rw [nI_clamp (n := j) (by omega), d1]
        exact br_f (nI_nlt h (by omega)) ⟨rfl, I0⟩
end
section
/-! code, descents -/
theorem wd_take_succ {w : List Nat} {i : Nat} (h : i < w.length) : 8 * wd_cd (w.take i) + w.getD i 0 = wd_cd (w.take (i + 1)) := by
  rw [ls_take_succ h, wd_snoc]
section
variable {f : Int32} {lt si ro cd sg nd : Nat → Int32}
theorem yc_4 {post : Int32 → Prop} {w : List Nat} (hw : w.length ≤ 7) (hr : ar_H ro 0 w) (hp : post (nI (wd_cd w))) :
    ∀ (d i n : Nat), i + d = w.length → d < n → wY_codeOfRow_4 post (nI w.length) f lt si ro cd sg nd n (nI (wd_cd (w.take i))) (nI i) := by
  intro d
  induction d with
  | zero =>
    intro i n hi hn
    obtain ⟨m, rfl⟩ : ∃ m, n = m + 1 := ⟨n - 1, by omega⟩
    rw [wY_codeOfRow_4]
    refine br_t (nI_le (by omega) (by omega)) ?_
    have e : i = w.length := by omega
    rw [e, List.take_length]; exact hp
  | succ d ih =>
    intro i n hi hn
    obtain ⟨m, rfl⟩ : ∃ m, n = m + 1 := ⟨n - 1, by omega⟩
    rw [wY_codeOfRow_4]
    dsimp only
    rw [nI_clamp (by omega), ar_0 hr (by omega), ix_78, wd_take_succ (by omega)]
    exact br_f (nI_ge (by omega) (by omega)) ⟨vp_in_nI (by omega) (by decide), nm_e (nm_r (nI_1 i) (ih (i + 1) m (by omega) (by omega)))⟩
theorem yc_wp {post : Int32 → Prop} {w : List Nat} (hw : w.length ≤ 7) (hr : ar_H ro 0 w) (hp : post (nI (wd_cd w))) : wpY_codeOfRow post (f, lt, si, ro, cd, sg, nd) (nI w.length) :=
  ⟨w.length + 1, yc_4 hw hr hp w.length 0 (w.length + 1) (by omega) (by omega)⟩
end
section
variable {f : Int32} {cn wo en le lf ll tr ca co : Nat → Int32}
theorem xc_14 {post : Int32 → Prop} {j : Nat} {w : List Nat} (hj : j < 2) (hw : w.length ≤ 7) (hc : cn j = nI w.length) (hr : ar_H wo (7 * j) w) (hp : post (nI (wd_cd w))) :
    ∀ (d i n : Nat), i + d = w.length → d < n → wX_code_14 post (nI j) f cn wo en le lf ll tr ca co n (nI (wd_cd (w.take i))) (nI i) := by
  intro d
  induction d with
  | zero =>
    intro i n hi hn
    obtain ⟨m, rfl⟩ : ∃ m, n = m + 1 := ⟨n - 1, by omega⟩
    rw [wX_code_14]
    dsimp only
    rw [nI_clamp (n := j) (by omega), hc]
    refine ⟨vp_in_nI hj (by decide), br_t (nI_le (by omega) (by omega)) ?_⟩
    have e : i = w.length := by omega
    rw [e, List.take_length]; exact hp
  | succ d ih =>
    intro i n hi hn
    obtain ⟨m, rfl⟩ : ∃ m, n = m + 1 := ⟨n - 1, by omega⟩
    rw [wX_code_14]
    dsimp only
    rw [nI_clamp (n := j) (by omega), hc, ix_7, nI_clamp (by omega), hr i (by omega), ix_78, wd_take_succ (by omega)]
    exact ⟨vp_in_nI hj (by decide), br_f (nI_ge (by omega) (by omega)) ⟨vp_in_nI (by omega) (by decide), nm_e (nm_r (nI_1 i) (ih (i + 1) m (by omega) (by omega)))⟩⟩
/-- descents among the first i pairs -/
def ds_n (w : List Nat) (i : Nat) : Nat := sm_n i (fun q => if w.getD (q + 1) 0 < w.getD q 0 then 1 else 0)
theorem ds_s (w : List Nat) (i : Nat) : ds_n w (i + 1) = ds_n w i + (if w.getD (i + 1) 0 < w.getD i 0 then 1 else 0) := rfl
theorem xd_14 {post : Int32 → Prop} {j : Nat} {w : List Nat} (hj : j < 2) (hw : w.length ≤ 7) (ho : wd_ok w) (hc : cn j = nI w.length) (hr : ar_H wo (7 * j) w) (hp : post (nI (ds_n w (w.length - 1)))) :
    ∀ (d i n : Nat), i + d = w.length - 1 → d < n → wX_descents_14 post (nI j) f cn wo en le lf ll tr ca co n (nI (ds_n w i)) (nI i) := by
  intro d
  induction d with
  | zero =>
    intro i n hi hn
    obtain ⟨m, rfl⟩ : ∃ m, n = m + 1 := ⟨n - 1, by omega⟩
    rw [wX_descents_14]
    dsimp only
    rw [nI_clamp (n := j) (by omega), hc, nI_1]
    refine ⟨vp_in_nI hj (by decide), br_t (nI_le (by omega) (by omega)) ?_⟩
    have e : i = w.length - 1 := by omega
    rw [e]; exact hp
  | succ d ih =>
    intro i n hi hn
    obtain ⟨m, rfl⟩ : ∃ m, n = m + 1 := ⟨n - 1, by omega⟩
    have ha := ho _ (ls_getD_mem (l := w) (i := i) (by omega))
    have hb := ho _ (ls_getD_mem (l := w) (i := i + 1) (by omega))
    have e1 := hr (i + 1) (by omega)
    rw [← Nat.add_assoc] at e1
    rw [wX_descents_14]
    dsimp only
    rw [nI_clamp (n := j) (by omega), hc, ix_7, nI_1 i, nI_1 (7 * j + i), nI_clamp (by omega), nI_clamp (by omega), hr i (by omega), e1]
    refine ⟨vp_in_nI hj (by decide), br_f (nI_ge (by omega) (by omega)) ⟨vp_in_nI (by omega) (by decide), vp_in_nI (by omega) (by decide), ?_⟩⟩
    refine pk_le (w.getD i 0) (w.getD (i + 1) 0) (fun h => nm_e ?_) (fun h => nm_r (nI_1 _) (nm_e ?_))
    · have := ih (i + 1) m (by omega) (by omega)
      rw [ds_s, if_neg (by omega)] at this
      exact this
    · have := ih (i + 1) m (by omega) (by omega)
      rw [ds_s, if_pos (by omega)] at this
      exact this
end
section
variable {f : Int32} {lt si ro cd sg nd : Nat → Int32}
theorem ix_s1 {n i : Nat} (hn : n ≤ 7) (hi : n - 1 ≤ i) (h7 : i ≤ 7) : nI n - 1 ≤ nI i := by
  show nI n - nI 1 ≤ nI i
  rw [Int32.le_iff_toInt_le, nI_toInt (by omega), pk_sub_toInt (by omega) (by omega)]
  omega
theorem yd_21 {post : Int32 → SY → Prop} {w : List Nat} (hw : w.length ≤ 7) (ho : wd_ok w) (hr : ar_H ro 0 w) (hp : post (nI (ds_n w (w.length - 1))) (f, lt, si, ro, cd, sg, nd)) :
    ∀ (d i n : Nat), i + d = w.length - 1 → d < n → wY_descents_21 post (nI w.length) f lt si ro cd sg nd n (nI (ds_n w i)) (nI i) := by
  intro d
  induction d with
  | zero =>
    intro i n hi hn
    obtain ⟨m, rfl⟩ : ∃ m, n = m + 1 := ⟨n - 1, by omega⟩
    rw [wY_descents_21]
    refine br_t (ix_s1 hw (by omega) (by omega)) ?_
    have e : i = w.length - 1 := by omega
    rw [e]; exact hp
  | succ d ih =>
    intro i n hi hn
    obtain ⟨m, rfl⟩ : ∃ m, n = m + 1 := ⟨n - 1, by omega⟩
    have ha := ho _ (ls_getD_mem (l := w) (i := i) (by omega))
    have hb := ho _ (ls_getD_mem (l := w) (i := i + 1) (by omega))
    rw [wY_descents_21]
    dsimp only
    rw [nI_1 i, nI_clamp (by omega), nI_clamp (by omega), ar_0 hr (by omega), ar_0 hr (by omega), ix_m1 (by omega)]
    refine br_f (nI_ge (by omega) (by omega)) ⟨vp_in_nI (by omega) (by decide), vp_in_nI (by omega) (by decide), ?_⟩
    refine pk_le (w.getD i 0) (w.getD (i + 1) 0) (fun h => nm_e ?_) (fun h => nm_r (nI_1 _) (nm_e ?_))
    · have := ih (i + 1) m (by omega) (by omega)
      rw [ds_s, if_neg (by omega)] at this
      exact this
    · have := ih (i + 1) m (by omega) (by omega)
      rw [ds_s, if_pos (by omega)] at this
      exact this
end
theorem i_vc_code {k : Nat} {u : SX} {v : SY} (I : i_Rel k u v) (hk : k + 3 ≤ 1536) (v1 : Int32) : wpX_code (fun r => wpY_code (fun r' v' => r' = r ∧ i_Rel (k + 3) u v') v v1) u v1 := by
  obtain ⟨f, cn, wo, en, le, lf, ll, tr, ca, co⟩ := u
  obtain ⟨g, lt, si, ro, cd, sg, nd⟩ := v
  have I0 := I
  obtain ⟨W, hW, hX, hY⟩ := I
  unfold wpX_code
  dsimp only
  rcases ix_word v1 with hb | ⟨j, hj, rfl⟩
  · refine xb_bad hb (br_f (by decide) ?_)
    unfold wpY_code
    exact yb_bad hb (br_f (by decide) ⟨rfl, I0⟩)
  · obtain ⟨c1, c2, c3⟩ := hX j hj
    obtain ⟨d1, d2⟩ := hY j hj
    obtain ⟨w7, wok⟩ := hW j hj
    dsimp only at c1 c2 c3 d1 d2
    refine xb_ok hj (br_t rfl ⟨(W j).length + 1, xc_14 hj w7 c1 c2 ?_ (W j).length 0 _ (by omega) (by omega)⟩)
    unfold wpY_code
    dsimp only
    refine yb_ok hj (br_t rfl (yt_wp hj w7 d1 d2 (fun ro' hr => ?_)))
    dsimp only
    exact yc_wp w7 hr ⟨rfl, I0⟩
theorem i_vc_descents {k : Nat} {u : SX} {v : SY} (I : i_Rel k u v) (hk : k + 3 ≤ 1536) (v1 : Int32) : wpX_descents (fun r => wpY_descents (fun r' v' => r' = r ∧ i_Rel (k + 3) u v') v v1) u v1 := by
  obtain ⟨f, cn, wo, en, le, lf, ll, tr, ca, co⟩ := u
  obtain ⟨g, lt, si, ro, cd, sg, nd⟩ := v
  have I0 := I
  obtain ⟨W, hW, hX, hY⟩ := I
  unfold wpX_descents
  dsimp only
  rcases ix_word v1 with hb | ⟨j, hj, rfl⟩
  · refine xb_bad hb (br_f (by decide) ?_)
    unfold wpY_descents
    exact yb_bad hb (br_f (by decide) ⟨rfl, I0⟩)
  · obtain ⟨c1, c2, c3⟩ := hX j hj
    obtain ⟨d1, d2⟩ := hY j hj
    obtain ⟨w7, wok⟩ := hW j hj
    dsimp only at c1 c2 c3 d1 d2
    refine xb_ok hj (br_t rfl ⟨(W j).length + 1, xd_14 hj w7 wok c1 c2 ?_ ((W j).length - 1) 0 _ (by omega) (by omega)⟩)
    unfold wpY_descents
    dsimp only
    refine yb_ok hj (br_t rfl (yt_wp hj w7 d1 d2 (fun ro' hr => ?_)))
    dsimp only
    exact ⟨(W j).length + 1, yd_21 w7 wok hr ⟨rfl, I0⟩ ((W j).length - 1) 0 _ (by omega) (by omega)⟩
end
section
/-! turn -/
def tn_w (w : List Nat) : List Nat := w.reverse.map (fun x => 8 - x)
theorem tn_len (w : List Nat) : (tn_w w).length = w.length := by rw [tn_w, List.length_map, List.length_reverse]
theorem tn_get (w : List Nat) {q : Nat} (h : q < w.length) : (tn_w w).getD q 0 = 8 - w.getD (w.length - 1 - q) 0 := by
  have h1 : q < w.reverse.length := by rw [List.length_reverse]; exact h
  rw [tn_w, List.getD_eq_getElem?_getD, List.getElem?_map, List.getElem?_eq_getElem h1, List.getElem_reverse, List.getD_eq_getElem?_getD, List.getElem?_eq_getElem (by omega)]
  rfl
theorem tn_ok {w : List Nat} (h : wd_ok w) : wd_ok (tn_w w) := by
  intro x hx
  obtain ⟨y, hy, rfl⟩ := List.mem_map.mp hx
  have := h y (List.mem_reverse.mp hy)
  show 1 ≤ 8 - y ∧ 8 - y < 8
  omega
def tn_r (w : List Nat) (i q : Nat) : Nat := if q < i ∨ w.length - 1 - i < q then w.getD (w.length - 1 - q) 0 else w.getD q 0
theorem ix_8s {y : Nat} (h : y ≤ 8) : (8 : Int32) - nI y = nI (8 - y) := pk_sub (a := 8) h
section
variable {f : Int32} {cn wo en le lf ll tr ca co : Nat → Int32}
theorem xu_88 {post : Int32 → SX → Prop} {j : Nat} {w : List Nat} (hj : j < 2) (hw : w.length ≤ 7) (ho : wd_ok w) :
    ∀ (d i n : Nat) (wo : Nat → Int32), i + d = w.length → d < n → (∀ q, q < w.length → wo (7 * j + q) = nI (if q < i then 8 - w.getD (w.length - 1 - q) 0 else w.getD (w.length - 1 - q) 0)) →
    (∀ wo' en' le', ar_H wo' (7 * j) (tn_w w) → wo_fr wo wo' j → tA_H en' le' j (tb_W (tn_w w)) → tA_fr en le en' le' j → post (nI w.length) (f, cn, wo', en', le', lf, ll, tr, ca, co)) → wX_turn_88 post (nI j) (nI w.length) f n (nI i) cn wo en le lf ll tr ca co := by
  intro d
  induction d with
  | zero =>
    intro i n wo hi hn hq hp
    obtain ⟨m, rfl⟩ : ∃ m, n = m + 1 := ⟨n - 1, by omega⟩
    rw [wX_turn_88]
    have har : ar_H wo (7 * j) (tn_w w) := by
      intro q hq'
      rw [tn_len] at hq'
      rw [hq q hq', if_pos (by omega), tn_get w hq']
    refine br_t (nI_le (by omega) (by omega)) ?_
    have h := xr_wp (post := fun u => match u with | (f_found, a_count, a_word, a_entry, a_length, a_left, a_leftLength, a_tried, a_came, a_codes) => post (nI w.length) (f_found, a_count, a_word, a_entry, a_length, a_left, a_leftLength, a_tried, a_came, a_codes)) (f := f) (cn := cn) (en := en) (le := le) (lf := lf) (ll := ll) (tr := tr) (ca := ca) (co := co) (N := (tn_w w).length) hj (by rw [tn_len]; exact hw) (Nat.le_refl _) (tn_ok ho) har (fun en' le' ht hf => by
      rw [List.take_length] at ht
      exact hp wo en' le' har (wo_fr_r _ _) ht hf)
    rw [tn_len] at h
    exact h
  | succ d ih =>
    intro i n wo hi hn hq hp
    obtain ⟨m, rfl⟩ : ∃ m, n = m + 1 := ⟨n - 1, by omega⟩
    have hb := ho _ (ls_getD_mem (l := w) (i := w.length - 1 - i) (by omega))
    have e := hq i (by omega)
    rw [if_neg (Nat.lt_irrefl i)] at e
    rw [wX_turn_88]
    dsimp only
    rw [ix_7, nI_clamp (by omega), e, ix_8s (by omega), ix_nb _ (by omega)]
    refine br_f (nI_ge (by omega) (by omega)) ⟨vp_in_nI (by omega) (by decide), vp_in_nI (by omega) (by decide), nm_e (nm_r (nI_1 i) (ih (i + 1) m _ (by omega) (by omega) (fun q hq' => ?_) (fun wo' en' le' h1 h2 h3 h4 => hp wo' en' le' h1 (wo_fr_t (wo_fr_u (by omega)) h2) h3 h4)))⟩
    by_cases c : q = i
    · rw [c, pk_us, if_pos (by omega)]
    · rw [pk_un (by omega), hq q hq']
      by_cases c2 : q < i
      · rw [if_pos c2, if_pos (by omega)]
      · rw [if_neg c2, if_neg (by omega)]
theorem xu_19 {post : Int32 → SX → Prop} {j : Nat} {w : List Nat} (hj : j < 2) (hw : w.length ≤ 7) (h1w : 1 ≤ w.length) (ho : wd_ok w) :
    ∀ (d i n : Nat) (wo : Nat → Int32), i + d = w.length → d < n → 2 * i ≤ w.length → (∀ q, q < w.length → wo (7 * j + q) = nI (tn_r w i q)) →
    (∀ wo' en' le', ar_H wo' (7 * j) (tn_w w) → wo_fr wo wo' j → tA_H en' le' j (tb_W (tn_w w)) → tA_fr en le en' le' j → post (nI w.length) (f, cn, wo', en', le', lf, ll, tr, ca, co)) → wX_turn_19 post (nI j) (nI w.length) f n (nI i) cn wo en le lf ll tr ca co := by
  intro d
  induction d with
  | zero => intro i n wo hi hn h2; omega
  | succ d ih =>
    intro i n wo hi hn h2 hq hp
    obtain ⟨m, rfl⟩ : ∃ m, n = m + 1 := ⟨n - 1, by omega⟩
    rw [wX_turn_19]
    dsimp only
    rw [ix_m1 h1w, pk_sub (show i ≤ w.length - 1 by omega), ix_7, ix_7, ix_m1 (show 1 ≤ 7 * j + w.length by omega), pk_sub (show i ≤ 7 * j + w.length - 1 by omega)]
    refine pk_le (w.length - 1 - i) i (fun h => ⟨w.length + 1, ?_⟩) (fun h => nm_e (nm_e ?_))
    · refine xu_88 hj hw ho w.length 0 _ wo (by omega) (by omega) (fun q hq' => ?_) hp
      rw [hq q hq', if_neg (Nat.not_lt_zero q), tn_r]
      by_cases c : q < i ∨ w.length - 1 - i < q
      · rw [if_pos c]
      · rw [if_neg c]
        have e : w.length - 1 - q = q := by omega
        rw [e]
    · have hlo : i < w.length := by omega
      have hhi : w.length - 1 - i < w.length := by omega
      have b1 := ho _ (ls_getD_mem hlo)
      have b2 := ho _ (ls_getD_mem hhi)
      have e1 := hq i hlo
      have e2 := hq _ hhi
      have t1 : tn_r w i i = w.getD i 0 := by rw [tn_r, if_neg (by omega)]
      have t2 : tn_r w i (w.length - 1 - i) = w.getD (w.length - 1 - i) 0 := by rw [tn_r, if_neg (by omega)]
      have e3 : 7 * j + (w.length - 1 - i) = 7 * j + w.length - 1 - i := by omega
      rw [t1] at e1
      rw [t2, e3] at e2
      rw [nI_clamp (n := 7 * j + i) (by omega), nI_clamp (n := 7 * j + w.length - 1 - i) (by omega), e1, e2]
      refine ⟨vp_in_nI (by omega) (by decide), nm_e ⟨vp_in_nI (by omega) (by decide), vp_in_nI (by omega) (by decide), nm_e ⟨vp_in_nI (by omega) (by decide), nm_e ?_⟩⟩⟩
      rw [ix_n _ (by omega), ix_n _ (by omega)]
      refine nm_r (nI_1 i) (ih (i + 1) m _ (by omega) (by omega) (by omega) (fun q hq' => ?_) (fun wo' en' le' g1 g2 g3 g4 => hp wo' en' le' g1 (wo_fr_t (wo_fr_t (wo_fr_u (by omega)) (wo_fr_u (by omega))) g2) g3 g4))
      by_cases c : q = w.length - 1 - i
      · have e4 : 7 * j + q = 7 * j + w.length - 1 - i := by omega
        rw [e4, pk_us, tn_r, if_pos (by omega)]
        have e5 : w.length - 1 - q = i := by omega
        rw [e5]
      · rw [pk_un (by omega)]
        by_cases c2 : q = i
        · rw [c2, pk_us, tn_r, if_pos (by omega)]
        · rw [pk_un (by omega), hq q hq', tn_r, tn_r]
          by_cases c3 : q < i ∨ w.length - 1 - i < q
          · rw [if_pos c3, if_pos (by omega)]
          · rw [if_neg c3, if_neg (by omega)]
theorem xu_wp {post : Int32 → SX → Prop} {j : Nat} {w : List Nat} (hj : j < 2) (hw : w.length ≤ 7) (ho : wd_ok w) (hwo : ar_H wo (7 * j) w)
    (hp : ∀ wo' en' le', ar_H wo' (7 * j) (tn_w w) → wo_fr wo wo' j → tA_H en' le' j (tb_W (tn_w w)) → tA_fr en le en' le' j → post (nI w.length) (f, cn, wo', en', le', lf, ll, tr, ca, co)) : ∃ n, wX_turn_19 post (nI j) (nI w.length) f n 0 cn wo en le lf ll tr ca co := by
  by_cases h : 1 ≤ w.length
  · refine ⟨w.length + 1, xu_19 hj hw h ho w.length 0 _ wo (by omega) (by omega) (by omega) (fun q hq => ?_) hp⟩
    rw [hwo q hq, tn_r, if_neg (by omega)]
  · have e : w.length = 0 := by omega
    refine ⟨1, ?_⟩
    rw [wX_turn_19]
    refine br_t ?_ ⟨w.length + 1, xu_88 hj hw ho w.length 0 _ wo (by omega) (by omega) (fun q hq => by omega) hp⟩
    rw [e]
    decide
end
section
variable {f : Int32} {lt si ro cd sg nd : Nat → Int32}
theorem yu_18 {post : Int32 → SY → Prop} {j : Nat} {w : List Nat} (hj : j < 2) (hw : w.length ≤ 7) (ho : wd_ok w) (hr : ar_H ro 0 w) :
    ∀ (d i n : Nat) (lt : Nat → Int32), i + d = w.length → d < n → (∀ q, q < i → lt (7 * j + q) = nI (8 - w.getD (w.length - 1 - q) 0)) →
    (∀ lt', ar_H lt' (7 * j) (tn_w w) → wo_fr lt lt' j → post (nI w.length) (f, lt', si, ro, cd, sg, nd)) → wY_turn_18 post (nI j) (nI w.length) f n (nI i) lt si ro cd sg nd := by
  intro d
  induction d with
  | zero =>
    intro i n lt hi hn hq hp
    obtain ⟨m, rfl⟩ : ∃ m, n = m + 1 := ⟨n - 1, by omega⟩
    rw [wY_turn_18]
    refine br_t (nI_le (by omega) (by omega)) (hp lt (fun q hq' => ?_) (wo_fr_r _ _))
    rw [tn_len] at hq'
    rw [hq q (by omega), tn_get w hq']
  | succ d ih =>
    intro i n lt hi hn hq hp
    obtain ⟨m, rfl⟩ : ∃ m, n = m + 1 := ⟨n - 1, by omega⟩
    have hb := ho _ (ls_getD_mem (l := w) (i := w.length - 1 - i) (by omega))
    rw [wY_turn_18]
    dsimp only
    rw [ix_m1 (show 1 ≤ w.length by omega), pk_sub (show i ≤ w.length - 1 by omega), ix_7, nI_clamp (by omega), nI_clamp (by omega), ar_0 hr (show w.length - 1 - i < w.length by omega), ix_8s (by omega)]
    refine br_f (nI_ge (by omega) (by omega)) ⟨vp_in_nI (by omega) (by decide), vp_in_nI (by omega) (by decide), nm_e (nm_r (nI_1 i) (ih (i + 1) m _ (by omega) (by omega) (fun q hq' => ?_) (fun lt' g1 g2 => hp lt' g1 (wo_fr_t (wo_fr_u (by omega)) g2))))⟩
    by_cases c : q = i
    · rw [c, pk_us]
    · rw [pk_un (by omega)]; exact hq q (by omega)
end
theorem i_vc_turn {k : Nat} {u : SX} {v : SY} (I : i_Rel k u v) (hk : k + 3 ≤ 1536) (v1 : Int32) : wpX_turn (fun r u' => wpY_turn (fun r' v' => r' = r ∧ i_Rel (k + 3) u' v') v v1) u v1 := by
  obtain ⟨f, cn, wo, en, le, lf, ll, tr, ca, co⟩ := u
  obtain ⟨g, lt, si, ro, cd, sg, nd⟩ := v
  have I0 := I
  obtain ⟨W, hW, hX, hY⟩ := I
  unfold wpX_turn
  dsimp only
  rcases ix_word v1 with hb | ⟨j, hj, rfl⟩
  · refine xb_bad hb (br_f (by decide) ?_)
    unfold wpY_turn
    exact yb_bad hb (br_f (by decide) ⟨rfl, I0⟩)
  · obtain ⟨c1, c2, c3⟩ := hX j hj
    obtain ⟨d1, d2⟩ := hY j hj
    obtain ⟨w7, wok⟩ := hW j hj
    dsimp only at c1 c2 c3 d1 d2
    refine xb_ok hj (br_t rfl ⟨vp_in_nI hj (by decide), ?_⟩)
    rw [nI_clamp (n := j) (by omega), c1]
    refine nm_e (xu_wp hj w7 wok c2 (fun wo' en' le' g1 g2 g3 g4 => ?_))
    unfold wpY_turn
    dsimp only
    refine yb_ok hj (br_t rfl (yt_wp hj w7 d1 d2 (fun ro' hr => ?_)))
    dsimp only
    refine ⟨(W j).length + 1, yu_18 hj w7 wok hr (W j).length 0 _ lt (by omega) (by omega) (fun q h => absurd h (Nat.not_lt_zero q)) (fun lt' h1 h2 => ?_)⟩
    refine ⟨rfl, rl_set W j (tn_w (W j)), rl_W_set hW (by rw [tn_len]; exact w7) (tn_ok wok), ?_, ?_⟩
    · exact rl_X_set hW hX (by rw [tn_len]; exact c1) (fun _ _ => rfl) g1 g2 g3 g4
    · exact rl_Y_set hW hY (by rw [tn_len]; exact d1) (fun _ _ => rfl) h1 h2
end
section
/-! the reference's search -/
theorem ix_pm (x : Int32) : x + (-1) = x - 1 := (Int32.sub_eq_add_neg x 1).symm
section
variable {f : Int32} {lt si ro cd sg nd : Nat → Int32}
theorem yp_7 {post : SY → Prop} {w : List Nat} (hw : w.length ≤ 7) (ho : wd_ok w) (hp : ∀ ro', ar_H ro' 0 w → post (f, lt, si, ro', cd, sg, nd)) :
    ∀ (i n : Nat) (ro : Nat → Int32), i ≤ w.length → i < n → (∀ q, i ≤ q → q < w.length → ro q = nI (w.getD q 0)) → wY_spread_7 post f n (nI (wd_cd (w.take i))) (nI i - 1) lt si ro cd sg nd := by
  intro i
  induction i with
  | zero =>
    intro n ro hi hn hq
    obtain ⟨m, rfl⟩ : ∃ m, n = m + 1 := ⟨n - 1, by omega⟩
    rw [wY_spread_7]
    refine br_t (by decide) (hp ro (fun q hq' => ?_))
    rw [Nat.zero_add]; exact hq q (Nat.zero_le q) hq'
  | succ i ih =>
    intro n ro hi hn hq
    obtain ⟨m, rfl⟩ : ∃ m, n = m + 1 := ⟨n - 1, by omega⟩
    have hb := ho _ (ls_getD_mem (l := w) (i := i) (by omega))
    have hlt : wd_cd (w.take (i + 1)) < 2097152 := wd_lt7 (wd_take ho _) (by rw [List.length_take]; omega)
    have e := wd_take_succ (w := w) (i := i) (by omega)
    have e1 : wd_cd (w.take (i + 1)) % 8 = w.getD i 0 := by omega
    have e2 : wd_cd (w.take (i + 1)) / 8 = wd_cd (w.take i) := by omega
    have r1 : nI (wd_cd (w.take (i + 1))) - nI (wd_cd (w.take (i + 1))) / 8 * 8 = nI (w.getD i 0) := by
      have := pk_rem (a := wd_cd (w.take (i + 1))) (d := 8) (by omega) (by decide) (by decide)
      rw [e1] at this
      exact this
    have r2 : nI (wd_cd (w.take (i + 1))) / 8 = nI (wd_cd (w.take i)) := by
      have := pk_div (a := wd_cd (w.take (i + 1))) (d := 8) (by omega) (by decide) (by decide)
      rw [e2] at this
      exact this
    rw [wY_spread_7]
    dsimp only
    rw [nI_pred, nI_clamp (by omega), r1, r2, ix_pm]
    refine br_f (nI_pos (by omega)) ⟨by decide, vp_in_nI (by omega) (by decide), nm_e ⟨by decide, nm_e (nm_e (ih m _ (by omega) (by omega) (fun q h1 h2 => ?_)))⟩⟩
    by_cases c : q = i
    · rw [c, pk_us]
    · rw [pk_un c]; exact hq q (by omega) h2
theorem yp_wp {post : SY → Prop} {w : List Nat} (hw : w.length ≤ 7) (ho : wd_ok w) (hp : ∀ ro', ar_H ro' 0 w → post (f, lt, si, ro', cd, sg, nd)) :
    wpY_spread post (f, lt, si, ro, cd, sg, nd) (nI (wd_cd w)) (nI w.length) := by
  unfold wpY_spread
  dsimp only
  have h := yp_7 (f := f) (lt := lt) (si := si) (cd := cd) (sg := sg) (nd := nd) hw ho hp w.length (w.length + 1) ro (Nat.le_refl _) (by omega) (fun q h1 h2 => by omega)
  rw [List.take_length] at h
  exact nm_e ⟨_, h⟩
theorem ye_2 {post : SY → Prop} {L : List Nat} {c : Nat} (hL : L.length ≤ 64) (hc : c < 2097152) (hb : ∀ y, y ∈ L → y < 2097152) (hcd : ar_H cd 0 L) (h64 : c ∉ L → L.length < 64)
    (h1 : c ∈ L → post (nI L.length, lt, si, ro, cd, sg, nd)) (h0 : c ∉ L → ∀ cd', ar_H cd' 0 (L ++ [c]) → post (nI (L.length + 1), lt, si, ro, cd', sg, nd)) :
    ∀ (d i n : Nat), i + d = L.length → d < n → (∀ q, q < i → L.getD q 0 ≠ c) → wY_meet_2 post (nI c) (nI L.length) lt si ro cd sg nd n (nI i) := by
  intro d
  induction d with
  | zero =>
    intro i n hi hn hq
    obtain ⟨m, rfl⟩ : ∃ m, n = m + 1 := ⟨n - 1, by omega⟩
    have hno : c ∉ L := by
      intro hm
      obtain ⟨q, hq', e⟩ := List.mem_iff_getElem.mp hm
      refine hq q (by omega) ?_
      rw [List.getD_eq_getElem?_getD, List.getElem?_eq_getElem hq']; exact e
    rw [wY_meet_2]
    dsimp only
    rw [nI_clamp (by omega)]
    refine br_t (nI_le (by omega) (by omega)) ⟨vp_in_nI (h64 hno) (by decide), nm_e (nm_r (nI_1 _) (h0 hno _ ?_))⟩
    have := ar_snoc (v := c) hcd
    rw [Nat.zero_add] at this
    exact this
  | succ d ih =>
    intro i n hi hn hq
    obtain ⟨m, rfl⟩ : ∃ m, n = m + 1 := ⟨n - 1, by omega⟩
    have hil : i < L.length := by omega
    have hbi := hb _ (ls_getD_mem hil)
    rw [wY_meet_2]
    dsimp only
    rw [nI_clamp (n := i) (by omega), ar_0 hcd hil]
    refine br_f (nI_ge (by omega) (by omega)) ⟨vp_in_nI (by omega) (by decide), pk_eq (L.getD i 0) c (fun e => h1 ?_) (fun e => nm_r (nI_1 i) (ih (i + 1) m (by omega) (by omega) (fun q hq' => ?_)))⟩
    · rw [← e]; exact ls_getD_mem hil
    · by_cases g : q = i
      · rw [g]; exact e
      · exact hq q (by omega)
theorem ye_wp {post : SY → Prop} {L : List Nat} {c : Nat} (hL : L.length ≤ 64) (hc : c < 2097152) (hb : ∀ y, y ∈ L → y < 2097152) (hcd : ar_H cd 0 L) (h64 : c ∉ L → L.length < 64)
    (h1 : c ∈ L → post (nI L.length, lt, si, ro, cd, sg, nd)) (h0 : c ∉ L → ∀ cd', ar_H cd' 0 (L ++ [c]) → post (nI (L.length + 1), lt, si, ro, cd', sg, nd)) :
    wpY_meet post (nI L.length, lt, si, ro, cd, sg, nd) (nI c) :=
  ⟨L.length + 1, ye_2 hL hc hb hcd h64 h1 h0 L.length 0 _ (by omega) (by omega) (fun q h => absurd h (Nat.not_lt_zero q))⟩
end
/-- what the search keeps: different words of the component -/
def sr_I (w : List Nat) (C : List (List Nat)) : Prop := w ∈ C ∧ C.Nodup ∧ ∀ v, v ∈ C → kn_eq w v
def sr_C (C : List (List Nat)) : List Nat := C.map wd_cd
theorem sr_len (C : List (List Nat)) : (sr_C C).length = C.length := List.length_map _
theorem sr_get (C : List (List Nat)) {k : Nat} (h : k < C.length) : (sr_C C).getD k 0 = wd_cd (C.getD k []) := by
  rw [sr_C, List.getD_eq_getElem?_getD, List.getElem?_map, List.getElem?_eq_getElem h, List.getD_eq_getElem?_getD, List.getElem?_eq_getElem h]; rfl
theorem sr_ok {w v : List Nat} (ho : wd_ok w) (h : kn_eq w v) : wd_ok v ∧ v.length = w.length := ⟨wd_ok_perm (kn_perm h) ho, (kn_perm h).length_eq⟩
theorem sr_lt {w : List Nat} {C : List (List Nat)} (hw : w.length ≤ 7) (ho : wd_ok w) (h : sr_I w C) : ∀ y, y ∈ sr_C C → y < 2097152 := by
  intro y hy
  obtain ⟨v, hv, rfl⟩ := List.mem_map.mp hy
  have := sr_ok ho (h.2.2 v hv)
  exact wd_lt7 this.1 (by omega)
theorem sr_mem {w v : List Nat} {C : List (List Nat)} (ho : wd_ok w) (h : sr_I w C) (hv : kn_eq w v) : wd_cd v ∈ sr_C C ↔ v ∈ C := by
  constructor
  · intro g
    obtain ⟨u, hu, e⟩ := List.mem_map.mp g
    have a := sr_ok ho (h.2.2 u hu)
    have b := sr_ok ho hv
    rw [← wd_inj u v (by omega) a.1 b.1 e]; exact hu
  · intro g; exact List.mem_map.mpr ⟨v, g, rfl⟩
theorem sr_snoc {w v : List Nat} {C : List (List Nat)} (h : sr_I w C) (hv : kn_eq w v) (hn : v ∉ C) : sr_I w (C ++ [v]) := by
  refine ⟨List.mem_append_left _ h.1, ?_, fun u hu => ?_⟩
  · refine List.nodup_append.mpr ⟨h.2.1, List.pairwise_singleton _ _, fun a ha b hb e => ?_⟩
    rw [List.mem_singleton] at hb
    rw [← hb, ← e] at hn
    exact hn ha
  · rcases List.mem_append.mp hu with e | e
    · exact h.2.2 u e
    · rw [List.mem_singleton.mp e]; exact hv
theorem sr_35 {w : List Nat} {C : List (List Nat)} (hw : w.length ≤ 7) (h : sr_I w C) : C.length ≤ 35 := wd_bound hw C h.2.1 h.2.2
theorem sr_rget_lo {C D : List (List Nat)} {k : Nat} (h : k < C.length) : (C ++ D).getD k [] = C.getD k [] := by
  rw [List.getD_eq_getElem?_getD, List.getD_eq_getElem?_getD, List.getElem?_append_left h]
section
variable {lt si sg nd : Nat → Int32}
theorem yq_37 {post : SY → Prop} {J : Int32 → Int32 → (Nat → Int32) → (Nat → Int32) → (Nat → Int32) → (Nat → Int32) → (Nat → Int32) → (Nat → Int32) → Prop} {w v : List Nat} {k : Nat} (hw : w.length ≤ 7) (ho : wd_ok w) (hv : kn_eq w v) :
    ∀ (d i n : Nat) (C : List (List Nat)) (ro cd : Nat → Int32), i + d = w.length - 1 → d < n → sr_I w C → k < C.length → C.getD k [] = v → ar_H cd 0 (sr_C C) → (∀ q, q < i → mv_ok v q → mv_sw v q ∈ C) →
    (∀ (D : List (List Nat)) (ro' cd' : Nat → Int32), sr_I w (C ++ D) → ar_H cd' 0 (sr_C (C ++ D)) → (∀ q, q + 1 < w.length → mv_ok v q → mv_sw v q ∈ C ++ D) → J (nI (k + 1)) (nI (C ++ D).length) lt si ro' cd' sg nd) →
    wY_search_37 post J (nI w.length) (nI k) n (nI i) (nI C.length) lt si ro cd sg nd := by
  have hvo := sr_ok ho hv
  intro d
  induction d with
  | zero =>
    intro i n C ro cd hi hn hC hk hCk hcd hq hJ
    obtain ⟨m, rfl⟩ : ∃ m, n = m + 1 := ⟨n - 1, by omega⟩
    rw [wY_search_37]
    refine br_t (ix_s1 hw (by omega) (by omega)) (nm_r (nI_1 k) ?_)
    have := hJ [] ro cd
    rw [List.append_nil] at this
    exact this hC hcd (fun q h => hq q (by omega))
  | succ d ih =>
    intro i n C ro cd hi hn hC hk hCk hcd hq hJ
    obtain ⟨m, rfl⟩ : ∃ m, n = m + 1 := ⟨n - 1, by omega⟩
    have h35 := sr_35 hw hC
    have hiv : i + 1 < v.length := by omega
    rw [wY_search_37]
    dsimp only
    rw [nI_clamp (n := k) (by omega), ar_0 hcd (by rw [sr_len]; exact hk), sr_get C hk, hCk, ix_m1 (show 1 ≤ w.length by omega)]
    refine br_f (nI_ge (by omega) (by omega)) ⟨vp_in_nI (by omega) (by decide), ?_⟩
    rw [← hvo.2]
    refine yp_wp (by omega) hvo.1 (fun ro' hr => ?_)
    dsimp only
    refine ym_wp (by omega) hvo.1 hiv hr (fun hm => ?_) (fun hm => ?_)
    · refine br_f (by decide) ?_
      rw [nI_1, nI_clamp (n := i) (by omega), nI_clamp (n := i + 1) (by omega), ar_0 hr (by omega), ar_0 hr hiv]
      refine ⟨vp_in_nI (by omega) (by decide), nm_e ⟨vp_in_nI (by omega) (by decide), vp_in_nI (by omega) (by decide), nm_e ⟨vp_in_nI (by omega) (by decide), nm_e ?_⟩⟩⟩
      have hsw := ar_sw hr hiv
      rw [Nat.zero_add] at hsw
      have hl := mv_sw_len v hiv
      have hkn : kn_eq w (mv_sw v i) := kn_trans hv (mv_kn hiv hm)
      have hso := sr_ok ho hkn
      have hrow := yc_wp (f := nI C.length) (lt := lt) (si := si) (cd := cd) (sg := sg) (nd := nd) (w := mv_sw v i) (by omega) hsw
        (post := fun r => wpY_meet (fun u => match u with | (f_found_63, a_letters_64, a_sizes_65, a_row_66, a_codes_67, a_single_68, a_need_69) => (∀ x5_70 : Int32, x5_70 = nI (i + 1) → (wY_search_37 post J (nI v.length) (nI k) m x5_70 f_found_63 a_letters_64 a_sizes_65 a_row_66 a_codes_67 a_single_68 a_need_69))) (nI C.length, lt, si, (upd (upd ro' i (nI (v.getD (i + 1) 0))) (i + 1) (nI (v.getD i 0))), cd, sg, nd) r) (by
          rw [← sr_len C]
          refine ye_wp (by rw [sr_len]; omega) (wd_lt7 hso.1 (by omega)) (sr_lt hw ho hC) hcd (fun _ => by rw [sr_len]; omega) (fun hin => ?_) (fun hout cd' hcd' => ?_)
          · dsimp only
            rw [sr_len, hvo.2]
            refine nm_e (ih (i + 1) m C _ cd (by omega) (by omega) hC hk hCk hcd (fun q hq' hm' => ?_) hJ)
            by_cases c : q = i
            · rw [c]; exact (sr_mem ho hC hkn).mp hin
            · exact hq q (by omega) hm'
          · dsimp only
            rw [sr_len, hvo.2]
            have hnc : mv_sw v i ∉ C := fun z => hout ((sr_mem ho hC hkn).mpr z)
            have hC' := sr_snoc hC hkn hnc
            have hcd2 : ar_H cd' 0 (sr_C (C ++ [mv_sw v i])) := by
              rw [sr_C, List.map_append]; exact hcd'
            have hlen : (C ++ [mv_sw v i]).length = C.length + 1 := by rw [List.length_append]; rfl
            rw [← hlen]
            refine nm_e (ih (i + 1) m (C ++ [mv_sw v i]) _ cd' (by omega) (by omega) hC' (by omega) (by rw [sr_rget_lo hk]; exact hCk) hcd2 (fun q hq' hm' => ?_) (fun D ro2 cd2 a b c => ?_))
            · by_cases c : q = i
              · rw [c]; exact List.mem_append_right _ (List.mem_singleton.mpr rfl)
              · exact List.mem_append_left _ (hq q (by omega) hm')
            · have := hJ ([mv_sw v i] ++ D) ro2 cd2
              rw [← List.append_assoc] at this
              exact this a b c)
      rw [hl] at hrow
      exact hrow
    · refine br_t rfl (nm_r (nI_1 i) ?_)
      rw [hvo.2]
      refine ih (i + 1) m C ro' cd (by omega) (by omega) hC hk hCk hcd (fun q hq' hm' => ?_) hJ
      by_cases c : q = i
      · rw [c] at hm'; exact absurd hm' hm
      · exact hq q (by omega) hm'
theorem yq_25 {post : SY → Prop} {w : List Nat} (hw : w.length ≤ 7) (ho : wd_ok w)
    (hp : ∀ (C : List (List Nat)) (ro' cd' : Nat → Int32), C.Nodup → (∀ v, v ∈ C ↔ kn_eq w v) → C.length ≤ 35 → ar_H cd' 0 (sr_C C) → post (nI C.length, lt, si, ro', cd', sg, nd)) :
    ∀ (d k n : Nat) (C : List (List Nat)) (ro cd : Nat → Int32), k + d = 36 → d < n → k ≤ C.length → sr_I w C → ar_H cd 0 (sr_C C) → (∀ q, q < k → ∀ i, i + 1 < w.length → mv_ok (C.getD q []) i → mv_sw (C.getD q []) i ∈ C) →
    wY_search_25 post (nI w.length) n (nI k) (nI C.length) lt si ro cd sg nd := by
  intro d
  induction d with
  | zero =>
    intro k n C ro cd hk hn hkC hC
    have := sr_35 hw hC
    omega
  | succ d ih =>
    intro k n C ro cd hk hn hkC hC hcd hq
    have h35 := sr_35 hw hC
    obtain ⟨m, rfl⟩ : ∃ m, n = m + 1 := ⟨n - 1, by omega⟩
    rw [wY_search_25]
    refine pk_le C.length k (fun h => ?_) (fun h => ⟨w.length + 1, ?_⟩)
    · refine hp C ro cd hC.2.1 (fun v => ⟨fun g => hC.2.2 v g, fun g => ?_⟩) h35 hcd
      refine wd_closed C hC.1 (fun u hu i hi hm => ?_) g
      obtain ⟨q, hq', e⟩ := List.mem_iff_getElem.mp hu
      have e2 : C.getD q [] = u := by rw [List.getD_eq_getElem?_getD, List.getElem?_eq_getElem hq']; exact e
      have := hq q (by omega) i (by have := (sr_ok ho (hC.2.2 u hu)).2; omega)
      rw [e2] at this
      exact this hm
    · have hkm : C.getD k [] ∈ C := ls_rmem h
      refine yq_37 hw ho (hC.2.2 _ hkm) (w.length - 1) 0 _ C ro cd (by omega) (by omega) hC h rfl hcd (fun q h => absurd h (Nat.not_lt_zero q)) (fun D ro' cd' a b c => ?_)
      refine ih (k + 1) m (C ++ D) ro' cd' (by omega) (by omega) (by rw [List.length_append]; omega) a b (fun q hq' i hi hm => ?_)
      rw [sr_rget_lo (by omega)] at hm ⊢
      by_cases g : q = k
      · rw [g] at hm ⊢; exact c i hi hm
      · exact List.mem_append_left _ (hq q (by omega) i hi hm)
variable {f : Int32} {ro cd : Nat → Int32}
theorem yq_wp {post : SY → Prop} {j : Nat} {w : List Nat} (hj : j < 2) (hw : w.length ≤ 7) (ho : wd_ok w) (hs : si j = nI w.length) (hl : ar_H lt (7 * j) w)
    (hp : ∀ (C : List (List Nat)) (ro' cd' : Nat → Int32), C.Nodup → (∀ v, v ∈ C ↔ kn_eq w v) → C.length ≤ 35 → ar_H cd' 0 (sr_C C) → post (nI C.length, lt, si, ro', cd', sg, nd)) : wpY_search post (f, lt, si, ro, cd, sg, nd) (nI j) := by
  unfold wpY_search
  dsimp only
  refine yt_wp hj hw hs hl (fun ro' hr => ?_)
  dsimp only
  refine yc_wp hw hr ?_
  refine ye_wp (L := []) (Nat.zero_le _) (wd_lt7 ho hw) (fun y h => by cases h) (ar_nil _ _) (fun _ => by decide) (fun h => by cases h) (fun _ cd' hcd => ?_)
  dsimp only
  refine ⟨37, yq_25 hw ho hp 36 0 37 [w] ro' cd' rfl (by omega) (Nat.zero_le _) ⟨List.mem_singleton.mpr rfl, List.pairwise_singleton _ _, fun v hv => ?_⟩ hcd (fun q h => absurd h (Nat.not_lt_zero q))⟩
  rw [List.mem_singleton.mp hv]; exact kn_refl w
end
end
section
/-! kin, related -/
theorem sh_at_T (T : List (List Nat)) (r : Nat) : sh_at (tb_sh T) r = (T.getD r []).length := by
  rw [sh_at, tb_sh, List.getD_eq_getElem?_getD, List.getElem?_map, List.getD_eq_getElem?_getD]
  cases T[r]? <;> rfl
section
variable {f : Int32} {cn wo en le lf ll tr ca co : Nat → Int32}
theorem xh_20 {post : Int32 → Prop} {j c : Nat} {l : List Nat} (hj : j < 2) (hc : c < 7) (hl : ∀ r, r < 7 → le (7 * j + r) = nI (sh_at l r)) (h7 : ∀ r, sh_at l r ≤ 7) :
    ∀ (d q a n : Nat), q + d = 7 → d < n → post (nI ((List.range' q d).foldl (fun n q => if c < sh_at l q then n + 1 else n) a)) → wX_hook_20 post (nI j) (nI c) f cn wo en le lf ll tr ca co n (nI a) (nI q) := by
  intro d
  induction d with
  | zero =>
    intro q a n hq hn hp
    obtain ⟨m, rfl⟩ : ∃ m, n = m + 1 := ⟨n - 1, by omega⟩
    rw [wX_hook_20]
    exact br_t (nI_le (a := 7) (by omega) (by omega)) hp
  | succ d ih =>
    intro q a n hq hn hp
    obtain ⟨m, rfl⟩ : ∃ m, n = m + 1 := ⟨n - 1, by omega⟩
    have g7 := h7 q
    rw [List.range'_succ, List.foldl_cons] at hp
    rw [wX_hook_20]
    dsimp only
    rw [ix_7, nI_clamp (by omega), hl q (by omega)]
    refine br_f (nI_ge (b := 7) (by omega) (by decide)) ⟨vp_in_nI (by omega) (by decide), pk_le (sh_at l q) c (fun h => nm_r (nI_1 q) ?_) (fun h => nm_r (nI_1 a) (nm_r (nI_1 q) ?_))⟩
    · rw [if_neg (by omega)] at hp
      exact ih (q + 1) a m (by omega) (by omega) hp
    · rw [if_pos h] at hp
      exact ih (q + 1) (a + 1) m (by omega) (by omega) hp
theorem xh_wp {post : Int32 → Prop} {j r c : Nat} {l : List Nat} (hj : j < 2) (hr : r < 7) (hc : c < sh_at l r) (hl : ∀ r, r < 7 → le (7 * j + r) = nI (sh_at l r)) (h7 : ∀ r, sh_at l r ≤ 7) (hp : post (nI (sh_hk l r c))) :
    wpX_hook post (f, cn, wo, en, le, lf, ll, tr, ca, co) (nI j) (nI r) (nI c) := by
  have g7 := h7 r
  unfold wpX_hook
  dsimp only
  rw [ix_7, nI_clamp (by omega), hl r hr, pk_sub (by omega), nI_1]
  exact ⟨vp_in_nI (by omega) (by decide), nm_e (nm_e ⟨8, xh_20 hj (by omega) hl h7 (6 - r) (r + 1) _ _ (by omega) (by omega) hp⟩)⟩
theorem xk_20 {post : Int32 → Prop} {j : Nat} {l : List Nat} (hj : j < 2) (hl : ∀ r, r < 7 → le (7 * j + r) = nI (sh_at l r)) (h7 : ∀ r, sh_at l r ≤ 7) (hin : l ∈ sh_all 7 7 7) (hp : post (nI (sh_f l.sum l))) :
    ∀ (d k n : Nat), k + d = 49 → d < n → wX_kin_20 post (nI j) f cn wo en le lf ll tr ca co n (nI (sh_kin l k).1) (nI (sh_kin l k).2.1) (nI (sh_kin l k).2.2) (nI k) := by
  intro d
  induction d with
  | zero =>
    intro k n hk hn
    obtain ⟨m, rfl⟩ : ∃ m, n = m + 1 := ⟨n - 1, by omega⟩
    obtain ⟨_, _, a, b, c, e⟩ := sh_facts hin
    have ek : k = 49 := by omega
    subst ek
    rw [wX_kin_20]
    refine br_t (nI_le (a := 49) (by omega) (by omega)) (br_f (nI_nle b (by omega)) ⟨nI_ne0 b (by omega), ?_⟩)
    rw [pk_div (by omega) b (by omega), e]
    exact hp
  | succ d ih =>
    intro k n hk hn
    obtain ⟨m, rfl⟩ : ∃ m, n = m + 1 := ⟨n - 1, by omega⟩
    have hr : k / 7 < 7 := by omega
    have g7 := h7 (k / 7)
    have r1 : nI k / 7 = nI (k / 7) := pk_div (d := 7) (by omega) (by decide) (by decide)
    have r2 : nI k - nI k / 7 * 7 = nI (k % 7) := pk_rem (d := 7) (by omega) (by decide) (by decide)
    have hi := ih (k + 1) m (by omega) (by omega)
    rw [wX_kin_20]
    dsimp only
    rw [r2, r1]
    refine br_f (nI_ge (b := 49) (by omega) (by decide)) ⟨by decide, nm_e ⟨by decide, nm_e ?_⟩⟩
    rw [ix_7, nI_clamp (by omega), hl _ hr]
    refine ⟨vp_in_nI (by omega) (by decide), pk_le (sh_at l (k / 7)) (k % 7) (fun h => nm_r (nI_1 k) ?_) (fun h => nm_r (nI_1 _) (nm_r (pk_mul _ _) ?_))⟩
    · rw [sh_kin, if_neg (by omega)] at hi
      exact hi
    · rw [sh_kin, if_pos h] at hi
      refine xh_wp hj hr h hl h7 (nm_r (pk_mul _ _) (nm_r (nI_1 k) ?_))
      exact hi
theorem xk_wp {post : Int32 → Prop} {j : Nat} {w : List Nat} (hj : j < 2) (hw : w.length ≤ 7) (hT : tA_H en le j (tb_W w)) (hp : post (nI (sh_f w.length (tb_sh (tb_W w))))) : ∃ n, wX_kin_20 post (nI j) f cn wo en le lf ll tr ca co n 1 1 0 0 := by
  refine ⟨50, xk_20 (l := tb_sh (tb_W w)) hj (fun r hr => ?_) (fun r => ?_) (wd_sh hw) ?_ 49 0 50 rfl (by omega)⟩
  · rw [sh_at_T]; exact (hT.2 r hr).1
  · rw [sh_at_T]; have := tb_W_le hw r; omega
  · rw [wd_sum hw]; exact hp
end
theorem i_vc_kin {k : Nat} {u : SX} {v : SY} (I : i_Rel k u v) (hk : k + 3 ≤ 1536) (v1 : Int32) : wpX_kin (fun r => wpY_kin (fun r' v' => r' = r ∧ i_Rel (k + 3) u v') v v1) u v1 := by
  obtain ⟨f, cn, wo, en, le, lf, ll, tr, ca, co⟩ := u
  obtain ⟨g, lt, si, ro, cd, sg, nd⟩ := v
  have I0 := I
  obtain ⟨W, hW, hX, hY⟩ := I
  unfold wpX_kin
  dsimp only
  rcases ix_word v1 with hb | ⟨j, hj, rfl⟩
  · refine xb_bad hb (br_f (by decide) ?_)
    unfold wpY_kin
    exact yb_bad hb (br_f (by decide) ⟨rfl, I0⟩)
  · obtain ⟨c1, c2, c3⟩ := hX j hj
    obtain ⟨d1, d2⟩ := hY j hj
    obtain ⟨w7, wok⟩ := hW j hj
    dsimp only at c1 c2 c3 d1 d2
    refine xb_ok hj (br_t rfl (xk_wp hj w7 c3 ?_))
    unfold wpY_kin
    dsimp only
    refine yb_ok hj (br_t rfl (yq_wp hj w7 wok d1 d2 (fun C ro' cd' hn hm h35 hcd => ?_)))
    refine ⟨?_, I0⟩
    rw [(wd_full w7 C hn hm).length_eq, wd_E_len w7]
section
variable {f : Int32} {cn wo en le lf ll tr ca co : Nat → Int32}
theorem xl_0 {post : Int32 → Prop} {J : Int32 → Int32 → Prop} {r L : Nat} (hr : r < 7) (hL : L ≤ 7) (hl : le r = nI L) (hJ : J 0 (nI (r + 1))) :
    ∀ (d c n : Nat), c + d = L → d < n → wX_related_40 post J (nI r) f cn wo en le lf ll tr ca co n 0 (nI c) := by
  intro d
  induction d with
  | zero =>
    intro c n hc hn
    obtain ⟨m, rfl⟩ : ∃ m, n = m + 1 := ⟨n - 1, by omega⟩
    rw [wX_related_40]
    dsimp only
    rw [nI_clamp (n := r) (by omega), hl]
    exact ⟨vp_in_nI (by omega) (by decide), br_t (nI_le (by omega) (by omega)) (nm_r (nI_1 r) hJ)⟩
  | succ d ih =>
    intro c n hc hn
    obtain ⟨m, rfl⟩ : ∃ m, n = m + 1 := ⟨n - 1, by omega⟩
    rw [wX_related_40]
    dsimp only
    rw [nI_clamp (n := r) (by omega), hl]
    exact ⟨vp_in_nI (by omega) (by decide), br_f (nI_ge (by omega) (by omega)) (br_t rfl (nm_r (nI_1 c) (ih (c + 1) m (by omega) (by omega))))⟩
theorem xl_1 {post : Int32 → Prop} {J : Int32 → Int32 → Prop} {r : Nat} {R S : List Nat} (hr : r < 7) (h7 : R.length ≤ 7) (hRS : S.length = R.length) (hl : le r = nI R.length) (hR : ar_H en (7 * r) R) (hS : ar_H en (49 + 7 * r) S) (hR8 : ∀ y, y ∈ R → y < 8) (hS8 : ∀ y, y ∈ S → y < 8)
    (h1 : R = S → J 1 (nI (r + 1))) (h0 : R ≠ S → J 0 (nI (r + 1))) :
    ∀ (d c n : Nat), c + d = R.length → d < n → (∀ i, i < c → R.getD i 0 = S.getD i 0) → wX_related_40 post J (nI r) f cn wo en le lf ll tr ca co n 1 (nI c) := by
  intro d
  induction d with
  | zero =>
    intro c n hc hn hi
    obtain ⟨m, rfl⟩ : ∃ m, n = m + 1 := ⟨n - 1, by omega⟩
    rw [wX_related_40]
    dsimp only
    rw [nI_clamp (n := r) (by omega), hl]
    refine ⟨vp_in_nI (by omega) (by decide), br_t (nI_le (by omega) (by omega)) (nm_r (nI_1 r) (h1 ?_))⟩
    refine List.ext_getElem hRS.symm (fun i g1 g2 => ?_)
    have := hi i (by omega)
    rw [List.getD_eq_getElem?_getD, List.getElem?_eq_getElem g1, List.getD_eq_getElem?_getD, List.getElem?_eq_getElem g2] at this
    exact this
  | succ d ih =>
    intro c n hc hn hi
    obtain ⟨m, rfl⟩ : ∃ m, n = m + 1 := ⟨n - 1, by omega⟩
    have a1 := hR8 _ (ls_getD_mem (l := R) (i := c) (by omega))
    have a2 := hS8 _ (ls_getD_mem (l := S) (i := c) (by omega))
    rw [wX_related_40]
    dsimp only
    rw [nI_clamp (n := r) (by omega), hl, ix_7, ix_497, nI_clamp (n := 7 * r + c) (by omega), nI_clamp (n := 49 + 7 * r + c) (by omega), hR c (by omega), hS c (by omega)]
    refine ⟨vp_in_nI (by omega) (by decide), br_f (nI_ge (by omega) (by omega)) (br_f (by decide) ⟨vp_in_nI (by omega) (by decide), vp_in_nI (by omega) (by decide), ?_⟩)⟩
    refine pk_eq (R.getD c 0) (S.getD c 0) (fun e => nm_r (nI_1 c) (ih (c + 1) m (by omega) (by omega) (fun i hi' => ?_))) (fun e => nm_r (nI_1 c) (xl_0 hr h7 hl (h0 (fun z => e (by rw [z]))) d (c + 1) m (by omega) (by omega)))
    by_cases g : i = c
    · rw [g]; exact e
    · exact hi i (by omega)
theorem xl_4 {post : Int32 → Prop} {T U : List (List Nat)} (hT : tA_H en le 0 T) (hU : tA_H en le 1 U) (hT8 : tb_8 T) (hU8 : tb_8 U) (h1 : T = U → post 1) (h0 : T ≠ U → post 0) :
    ∀ (d r n : Nat), r + d = 7 → d < n → (T ≠ U → wX_related_4 post f cn wo en le lf ll tr ca co n 0 (nI r)) ∧ ((∀ q, q < r → T.getD q [] = U.getD q []) → wX_related_4 post f cn wo en le lf ll tr ca co n 1 (nI r)) := by
  intro d
  induction d with
  | zero =>
    intro r n hr hn
    obtain ⟨m, rfl⟩ : ∃ m, n = m + 1 := ⟨n - 1, by omega⟩
    rw [wX_related_4]
    refine ⟨fun hne => br_t (nI_le (a := 7) (by omega) (by omega)) (br_t rfl (h0 hne)), fun hq => br_t (nI_le (a := 7) (by omega) (by omega)) (br_f (by decide) (h1 ?_))⟩
    refine List.ext_getElem (hT.1.trans hU.1.symm) (fun i g1 g2 => ?_)
    have := hq i (by have := hT.1; omega)
    rw [List.getD_eq_getElem?_getD, List.getElem?_eq_getElem g1, List.getD_eq_getElem?_getD, List.getElem?_eq_getElem g2] at this
    exact this
  | succ d ih =>
    intro r n hr hn
    obtain ⟨m, rfl⟩ : ∃ m, n = m + 1 := ⟨n - 1, by omega⟩
    have hi := ih (r + 1) m (by omega) (by omega)
    obtain ⟨a1, a2, a3⟩ := hT.2 r (by omega)
    obtain ⟨b1, b2, b3⟩ := hU.2 r (by omega)
    have a1' : le r = nI (T.getD r []).length := by
      have : 7 * 0 + r = r := by omega
      rw [this] at a1; exact a1
    have a2' : ar_H en (7 * r) (T.getD r []) := by
      have : 49 * 0 + 7 * r = 7 * r := by omega
      rw [this] at a2; exact a2
    have b1' : le (7 + r) = nI (U.getD r []).length := b1
    have b2' : ar_H en (49 + 7 * r) (U.getD r []) := b2
    rw [wX_related_4]
    constructor
    · intro hne
      exact br_f (nI_ge (b := 7) (by omega) (by decide)) (br_t rfl ⟨8, xl_0 (by omega) a3 a1' (hi.1 hne) (T.getD r []).length 0 8 (by omega) (by omega)⟩)
    · intro hq
      refine br_f (nI_ge (b := 7) (by omega) (by decide)) (br_f (by decide) ⟨vp_in_nI (by omega) (by decide), ?_⟩)
      rw [ix_s7, nI_clamp (n := r) (by omega), nI_clamp (n := 7 + r) (by omega), a1', b1']
      refine ⟨vp_in_nI (by omega) (by decide), pk_eq (T.getD r []).length (U.getD r []).length (fun e => ⟨8, ?_⟩) (fun e => ⟨8, ?_⟩)⟩
      · refine xl_1 (by omega) a3 e.symm a1' a2' b2' (hT8 _ (ls_rmem (by rw [hT.1]; omega))) (hU8 _ (ls_rmem (by rw [hU.1]; omega))) (fun h => hi.2 (fun q hq' => ?_)) (fun h => hi.1 (fun z => h (by rw [z]))) (T.getD r []).length 0 8 (by omega) (by omega) (fun i h => absurd h (Nat.not_lt_zero i))
        by_cases g : q = r
        · rw [g]; exact h
        · exact hq q (by omega)
      · exact xl_0 (by omega) a3 a1' (hi.1 (fun z => e (by rw [z]))) (T.getD r []).length 0 8 (by omega) (by omega)
end
section
variable {lt si ro cd sg nd : Nat → Int32}
theorem yl_36 {post : Int32 → SY → Prop} {L : List Nat} {c : Nat} (hL : L.length ≤ 64) (hc : c < 2097152) (hb : ∀ y, y ∈ L → y < 2097152) (hcd : ar_H cd 0 L)
    (h1 : c ∈ L → post 1 (nI L.length, lt, si, ro, cd, sg, nd)) (h0 : c ∉ L → post 0 (nI L.length, lt, si, ro, cd, sg, nd)) :
    ∀ (d i n : Nat), i + d = L.length → d < n → (∀ q, q < i → L.getD q 0 ≠ c) → wY_related_36 post (nI c) (nI L.length) lt si ro cd sg nd n (nI i) := by
  intro d
  induction d with
  | zero =>
    intro i n hi hn hq
    obtain ⟨m, rfl⟩ : ∃ m, n = m + 1 := ⟨n - 1, by omega⟩
    have hno : c ∉ L := by
      intro hm
      obtain ⟨q, hq', e⟩ := List.mem_iff_getElem.mp hm
      refine hq q (by omega) ?_
      rw [List.getD_eq_getElem?_getD, List.getElem?_eq_getElem hq']; exact e
    rw [wY_related_36]
    exact br_t (nI_le (by omega) (by omega)) (h0 hno)
  | succ d ih =>
    intro i n hi hn hq
    obtain ⟨m, rfl⟩ : ∃ m, n = m + 1 := ⟨n - 1, by omega⟩
    have hil : i < L.length := by omega
    have hbi := hb _ (ls_getD_mem hil)
    rw [wY_related_36]
    dsimp only
    rw [nI_clamp (n := i) (by omega), ar_0 hcd hil]
    refine br_f (nI_ge (by omega) (by omega)) ⟨vp_in_nI (by omega) (by decide), pk_eq (L.getD i 0) c (fun e => h1 ?_) (fun e => nm_r (nI_1 i) (ih (i + 1) m (by omega) (by omega) (fun q hq' => ?_)))⟩
    · rw [← e]; exact ls_getD_mem hil
    · by_cases g : q = i
      · rw [g]; exact e
      · exact hq q (by omega)
variable {f : Int32}
theorem yl_wp {post : Int32 → SY → Prop} {w v : List Nat} (hw : w.length ≤ 7) (ho : wd_ok w) (hv : v.length ≤ 7) (hvo : wd_ok v) (s0 : si 0 = nI w.length) (s1 : si 1 = nI v.length) (l0 : ar_H lt (7 * 0) w) (l1 : ar_H lt (7 * 1) v)
    (h1 : tb_W w = tb_W v → ∀ f' ro' cd', post 1 (f', lt, si, ro', cd', sg, nd)) (h0 : tb_W w ≠ tb_W v → ∀ f' ro' cd', post 0 (f', lt, si, ro', cd', sg, nd)) : wpY_related post (f, lt, si, ro, cd, sg, nd) := by
  unfold wpY_related
  dsimp only
  rw [s0, s1]
  refine pk_eq w.length v.length (fun e => ?_) (fun e => ?_)
  · refine yt_wp (j := 1) (by decide) hv s1 l1 (fun ro' hr => ?_)
    dsimp only
    refine yc_wp hv hr ?_
    refine yq_wp (j := 0) (by decide) hw ho s0 l0 (fun C ro2 cd2 hn hm h35 hcd => ?_)
    dsimp only
    have hI : sr_I w C := ⟨(hm w).mpr (kn_refl w), hn, fun u hu => (hm u).mp hu⟩
    have hiff : wd_cd v ∈ sr_C C ↔ tb_W w = tb_W v := by
      constructor
      · intro g
        obtain ⟨u, hu, e2⟩ := List.mem_map.mp g
        have a := sr_ok ho ((hm u).mp hu)
        have e3 := wd_inj u v (by omega) a.1 hvo e2
        rw [e3] at hu
        exact tb_W_eq ((hm v).mp hu)
      · intro g
        exact List.mem_map.mpr ⟨v, (hm v).mpr (tb_W_kn hw hv g), rfl⟩
    refine ⟨C.length + 1, ?_⟩
    rw [← sr_len C]
    exact yl_36 (by rw [sr_len]; omega) (wd_lt7 hvo hv) (sr_lt hw ho hI) hcd (fun g => h1 (hiff.mp g) _ _ _) (fun g => h0 (fun z => g (hiff.mpr z)) _ _ _) (sr_C C).length 0 _ (by omega) (by omega) (fun q h => absurd h (Nat.not_lt_zero q))
  · refine h0 (fun z => e ?_) _ _ _
    have a := (tb_W_rd w hw).1
    have b := (tb_W_rd v hv).1
    rw [z] at a
    omega
end
theorem i_vc_related {k : Nat} {u : SX} {v : SY} (I : i_Rel k u v) (hk : k + 3 ≤ 1536) : wpX_related (fun r => wpY_related (fun r' v' => r' = r ∧ i_Rel (k + 3) u v') v) u := by
  obtain ⟨f, cn, wo, en, le, lf, ll, tr, ca, co⟩ := u
  obtain ⟨g, lt, si, ro, cd, sg, nd⟩ := v
  have I0 := I
  obtain ⟨W, hW, hX, hY⟩ := I
  unfold wpX_related
  dsimp only
  obtain ⟨w07, w0ok⟩ := hW 0 (by decide)
  obtain ⟨w17, w1ok⟩ := hW 1 (by decide)
  obtain ⟨d1, d2⟩ := hY 0 (by decide)
  obtain ⟨e1, e2⟩ := hY 1 (by decide)
  dsimp only at d1 d2 e1 e2
  refine ⟨8, (xl_4 (hX 0 (by decide)).2.2 (hX 1 (by decide)).2.2 (tb_W_8 w07 w0ok) (tb_W_8 w17 w1ok) (fun h => ?_) (fun h => ?_) 7 0 8 rfl (by omega)).2 (fun q h => absurd h (Nat.not_lt_zero q))⟩
  · exact yl_wp w07 w0ok w17 w1ok d1 e1 d2 e2 (fun _ _ _ _ => ⟨rfl, I0⟩) (fun z => absurd h z)
  · exact yl_wp w07 w0ok w17 w1ok d1 e1 d2 e2 (fun z => absurd z h) (fun _ _ _ _ => ⟨rfl, I0⟩)
end
section
/-! the reference's parts: isPart, size, most -/
def yb_up (up : Bool) : Int32 := if up = true then 1 else 0
theorem ix_bit {s i : Nat} (hs : s < 128) (hi : i < 7) : (nI s >>> (nI i &&& 31)) &&& 1 = nI (if s.testBit i = true then 1 else 0) := by
  have h : ∀ s, s < 128 → ∀ i, i < 7 → (nI s >>> (nI i &&& 31)) &&& 1 = nI (if s.testBit i = true then 1 else 0) := by decide +kernel
  exact h s hs i hi
theorem ix_pow {n : Nat} (hn : n ≤ 7) : (1 : Int32) <<< (nI n &&& 31) = nI (2 ^ n) := by
  have h : ∀ n, n < 8 → (1 : Int32) <<< (nI n &&& 31) = nI (2 ^ n) := by decide +kernel
  exact h n (by omega)
theorem ix_p7 {n : Nat} (hn : n ≤ 7) : 2 ^ n ≤ 128 := (Nat.pow_le_pow_right (by decide) hn : 2 ^ n ≤ 2 ^ 7)
theorem ix_sub (s p : Nat) : nI s &&& (nI p ^^^ (-1)) = nI (st_sub s p) := by
  have e : (-1 : Int32) = nI (2 ^ 32 - 1) := by decide +kernel
  rw [e, nx_xor, nx_and]; rfl
theorem ix_nbt (b : Nat) (h : b < 2) : vp_nar .boolean (nI b) = nI b := by
  match b, h with
  | 0, _ => rfl
  | 1, _ => rfl
section
variable {f : Int32} {lt si ro cd sg nd : Nat → Int32}
theorem yi_15 {post : Int32 → Prop} {up : Bool} {w : List Nat} {s : Nat} (hw : w.length ≤ 7) (ho : wd_ok w) (hr : ar_H ro 0 w) (hs : s < 128) (h1 : st_part up w s → post 1) (h0 : ¬ st_part up w s → post 0) :
    ∀ (d i n la : Nat), i + d = w.length → d < n → la ≤ 8 → (∀ x, 1 ≤ x → x < 8 → ((∀ a, a < i → s.testBit a = true → gr_ok up (w.getD a 0) x) ↔ gr_ok up la x)) → (∀ a b, a < b → b < i → s.testBit a = true → s.testBit b = true → gr_ok up (w.getD a 0) (w.getD b 0)) →
    wY_isPart_15 post (nI s) (nI w.length) (yb_up up) f lt si ro cd sg nd n (nI la) (nI i) := by
  intro d
  induction d with
  | zero =>
    intro i n la hi hn hla hx hq
    obtain ⟨m, rfl⟩ : ∃ m, n = m + 1 := ⟨n - 1, by omega⟩
    rw [wY_isPart_15]
    exact br_t (nI_le (by omega) (by omega)) (h1 (fun a b hab hb ha' hb' => hq a b hab (by omega) ha' hb'))
  | succ d ih =>
    intro i n la hi hn hla hx hq
    obtain ⟨m, rfl⟩ : ∃ m, n = m + 1 := ⟨n - 1, by omega⟩
    have hil : i < w.length := by omega
    have hb := ho _ (ls_getD_mem hil)
    have hxi := hx _ hb.1 hb.2
    rw [wY_isPart_15]
    dsimp only
    rw [ix_bit hs (by omega), nI_clamp (by omega), ar_0 hr hil]
    refine br_f (nI_ge (by omega) (by omega)) ?_
    have hno : ¬ gr_ok up la (w.getD i 0) → s.testBit i = true → post 0 := by
      intro g gb
      refine h0 (fun z => g (hxi.mp (fun a ha hab => z a i ha hil hab gb)))
    have hgo : gr_ok up la (w.getD i 0) → s.testBit i = true → wY_isPart_15 post (nI s) (nI w.length) (yb_up up) f lt si ro cd sg nd m (nI (w.getD i 0)) (nI (i + 1)) := by
      intro g gb
      refine ih (i + 1) m _ (by omega) (by omega) (by omega) (fun x x1 x8 => ⟨fun z => z i (by omega) gb, fun z a ha hab => ?_⟩) (fun a b hab hb' ha' hbb => ?_)
      · by_cases c : a = i
        · rw [c]; exact z
        · exact gr_ok_tr up _ _ _ (hxi.mpr g a (by omega) hab) z
      · by_cases c : b = i
        · rw [c]; exact hxi.mpr g a (by omega) ha'
        · exact hq a b hab (by omega) ha' hbb
    by_cases gb : s.testBit i = true
    · rw [if_pos gb]
      refine br_t rfl ?_
      cases up
      · refine br_t rfl ⟨vp_in_nI (by omega) (by decide), pk_lt (w.getD i 0) la (fun g => ⟨vp_in_nI (by omega) (by decide), nm_e (nm_r (nI_1 i) (hgo ((gr_ok_f _ _).mpr g) gb))⟩) (fun g => hno (fun z => by have := (gr_ok_f _ _).mp z; omega) gb)⟩
      · refine br_f (by decide) ⟨vp_in_nI (by omega) (by decide), pk_le la (w.getD i 0) (fun g => ⟨vp_in_nI (by omega) (by decide), nm_e (nm_r (nI_1 i) (hgo ((gr_ok_t _ _).mpr g) gb))⟩) (fun g => hno (fun z => by have := (gr_ok_t _ _).mp z; omega) gb)⟩
    · rw [if_neg gb]
      refine br_f (by decide) (nm_r (nI_1 i) (ih (i + 1) m la (by omega) (by omega) hla (fun x x1 x8 => ?_) (fun a b hab hb' ha' hbb => ?_)))
      · rw [← hx x x1 x8]
        constructor
        · intro z a ha hab; exact z a (by omega) hab
        · intro z a ha hab
          by_cases c : a = i
          · rw [c] at hab; exact absurd hab gb
          · exact z a (by omega) hab
      · by_cases c : b = i
        · rw [c] at hbb; exact absurd hbb gb
        · exact hq a b hab (by omega) ha' hbb
theorem yi_wp {post : Int32 → Prop} {up : Bool} {w : List Nat} {s : Nat} (hw : w.length ≤ 7) (ho : wd_ok w) (hr : ar_H ro 0 w) (hs : s < 128) (h1 : st_part up w s → post 1) (h0 : ¬ st_part up w s → post 0) :
    wpY_isPart post (f, lt, si, ro, cd, sg, nd) (nI s) (nI w.length) (yb_up up) := by
  unfold wpY_isPart
  dsimp only
  cases up
  · refine br_t rfl ⟨8, yi_15 (up := false) hw ho hr hs h1 h0 w.length 0 8 8 (by omega) (by omega) (Nat.le_refl _) (fun x x1 x8 => ⟨fun _ => (gr_ok_f _ _).mpr x8, fun _ a ha => absurd ha (Nat.not_lt_zero a)⟩) (fun a b hab hb => absurd hb (Nat.not_lt_zero b))⟩
  · refine br_f (by decide) ⟨8, yi_15 (up := true) hw ho hr hs h1 h0 w.length 0 8 0 (by omega) (by omega) (Nat.zero_le _) (fun x x1 x8 => ⟨fun _ => (gr_ok_t _ _).mpr (Nat.zero_le _), fun _ a ha => absurd ha (Nat.not_lt_zero a)⟩) (fun a b hab hb => absurd hb (Nat.not_lt_zero b))⟩
theorem yz_4 {post : Int32 → Prop} {s : Nat} (hs : s < 128) (hp : post (nI (st_sz s))) :
    ∀ (d i n : Nat), i + d = 7 → d < n → wY_size_4 post (nI s) f lt si ro cd sg nd n (nI (sm_n i (fun i => if s.testBit i = true then 1 else 0))) (nI i) := by
  intro d
  induction d with
  | zero =>
    intro i n hi hn
    obtain ⟨m, rfl⟩ : ∃ m, n = m + 1 := ⟨n - 1, by omega⟩
    have e : i = 7 := by omega
    subst e
    rw [wY_size_4]
    exact br_t (nI_le (a := 7) (by omega) (by omega)) hp
  | succ d ih =>
    intro i n hi hn
    obtain ⟨m, rfl⟩ : ∃ m, n = m + 1 := ⟨n - 1, by omega⟩
    rw [wY_size_4]
    dsimp only
    rw [ix_bit hs (by omega), nI_add]
    exact br_f (nI_ge (b := 7) (by omega) (by decide)) (nm_e (nm_r (nI_1 i) (ih (i + 1) m (by omega) (by omega))))
theorem yz_wp {post : Int32 → Prop} {s : Nat} (hs : s < 128) (hp : post (nI (st_sz s))) : wpY_size post (f, lt, si, ro, cd, sg, nd) (nI s) :=
  ⟨8, yz_4 hs hp 7 0 8 rfl (by omega)⟩
end
/-- the best so far -/
def mb_B (P : Nat → Prop) (s b : Nat) : Prop := (∀ t, t < s → P t → st_sz t ≤ b) ∧ ∃ t, t < s ∧ P t ∧ st_sz t = b
theorem mb_0 {P : Nat → Prop} (h : P 0) : mb_B P 1 0 := by
  have e : st_sz 0 = 0 := by decide
  refine ⟨fun t ht _ => ?_, 0, by decide, h, e⟩
  have : t = 0 := by omega
  rw [this, e]; exact Nat.le_refl _
theorem mb_skip {P : Nat → Prop} {s b : Nat} (h : mb_B P s b) (g : ¬ P s ∨ st_sz s ≤ b) : mb_B P (s + 1) b := by
  obtain ⟨h1, t, h2, h3⟩ := h
  refine ⟨fun t' ht hp => ?_, t, by omega, h3⟩
  by_cases c : t' = s
  · rw [c] at hp ⊢
    rcases g with g | g
    · exact absurd hp g
    · exact g
  · exact h1 t' (by omega) hp
theorem mb_new {P : Nat → Prop} {s b : Nat} (h : mb_B P s b) (hp : P s) (g : b < st_sz s) : mb_B P (s + 1) (st_sz s) := by
  refine ⟨fun t' ht hp' => ?_, s, by omega, hp, rfl⟩
  by_cases c : t' = s
  · rw [c]; exact Nat.le_refl _
  · have := h.1 t' (by omega) hp'; omega
theorem st_sz_le (s : Nat) : st_sz s ≤ 7 := by
  have := sm_le 7 (fun i => if s.testBit i = true then 1 else 0) (fun _ => 1) (fun j _ => by show (if s.testBit j = true then 1 else 0) ≤ 1; split <;> omega)
  exact this
theorem mb_ans {up : Bool} {w : List Nat} {k b : Nat} (hw : w.length ≤ 7) (hk : k ≤ 3) (h : mb_B (st_cov up w k) (2 ^ w.length) b) : b = gr_ans up k (tb_sh (tb_W w)) := by
  obtain ⟨h1, t, h2, h3, h4⟩ := h
  have a := (st_ans hw hk up b).mp ⟨t, h2, h3, by omega⟩
  obtain ⟨s, s1, s2, s3⟩ := (st_ans hw hk up (gr_ans up k (tb_sh (tb_W w)))).mpr (Nat.le_refl _)
  have := h1 s s1 s2
  omega
/-- an entry of the table of needs -/
def nd_ok (up : Bool) (w : List Nat) (nd : Nat → Int32) (t : Nat) : Prop := ∃ m, m ≤ 8 ∧ nd t = nI m ∧ ∀ κ, κ < 8 → (m ≤ κ ↔ st_cov up w κ t)
def sg_ok (up : Bool) (w : List Nat) (sg : Nat → Int32) (t : Nat) : Prop := (st_part up w t → sg t = nI 1) ∧ (¬ st_part up w t → sg t = nI 0)
section
variable {f : Int32} {lt si ro cd sg nd : Nat → Int32}
theorem yo_58 {post : Int32 → SY → Prop} {J : Int32 → Int32 → (Nat → Int32) → (Nat → Int32) → (Nat → Int32) → (Nat → Int32) → (Nat → Int32) → (Nat → Int32) → Prop} {up : Bool} {w : List Nat} {k b s : Nat} (hs : s < 128) (hs0 : s ≠ 0) (hk : k ≤ 3) (hb : b ≤ 7)
    (hsg : ∀ t, t ≠ 0 → t ≤ s → sg_ok up w sg t)
    (hJ : ∀ nd', (∀ t, t < s + 1 → nd_ok up w nd' t) → (∀ b', (st_cov up w k s ∧ b < st_sz s ∧ b' = st_sz s) ∨ ((¬ st_cov up w k s ∨ st_sz s ≤ b) ∧ b' = b) → J (nI b') (nI (s + 1)) lt si ro cd sg nd')) :
    ∀ (p n : Nat) (nd : Nat → Int32), p &&& s = p → p < n → (∀ t, t < s → nd_ok up w nd t) →
    (∃ m, m ≤ 8 ∧ nd s = nI m ∧ ∀ κ, κ < 8 → (m ≤ κ ↔ ∃ q κ', q ≠ 0 ∧ q &&& s = q ∧ p < q ∧ st_part up w q ∧ κ = κ' + 1 ∧ st_cov up w κ' (st_sub s q))) →
    wY_most_58 post J (nI k) (yb_up up) (nI w.length) (nI b) (nI s) f n (nI p) lt si ro cd sg nd := by
  intro p
  induction p using Nat.strongRecOn with
  | ind p ih =>
    intro n nd hps hn hnd ⟨m, m8, hm, hmk⟩
    obtain ⟨n', rfl⟩ : ∃ n', n = n' + 1 := ⟨n - 1, by omega⟩
    have hple : p ≤ s := by rw [← hps]; exact Nat.and_le_right
    rw [wY_most_58]
    dsimp only
    rw [nI_clamp (n := s) (by omega), hm]
    refine pk_le p 0 (fun h => ?_) (fun h => ?_)
    · have e0 : p = 0 := by omega
      subst e0
      have hcov : ∀ κ, κ < 8 → (m ≤ κ ↔ st_cov up w κ s) := by
        intro κ hκ
        rw [hmk κ hκ]
        constructor
        · rintro ⟨q, κ', q0, qs, _, qp, rfl, qc⟩
          exact (st_cov_iff κ' s hs0).mpr ⟨q, q0, qs, qp, qc⟩
        · intro hc
          cases κ with
          | zero => exact absurd hc hs0
          | succ κ' =>
            obtain ⟨q, q0, qs, qp, qc⟩ := (st_cov_iff κ' s hs0).mp hc
            exact ⟨q, κ', q0, qs, by omega, qp, rfl, qc⟩
      have hall : ∀ t, t < s + 1 → nd_ok up w nd t := by
        intro t ht
        by_cases c : t = s
        · rw [c]; exact ⟨m, m8, hm, hcov⟩
        · exact hnd t (by omega)
      have hz7 := st_sz_le s
      refine yz_wp hs ⟨vp_in_nI hs (by decide), pk_lt k m (fun g => nm_r (nI_1 s) (hJ nd hall b (Or.inr ⟨Or.inl ?_, rfl⟩))) (fun g => ?_)⟩
      · intro z
        have := (hcov k (by omega)).mpr z
        omega
      · have hck := (hcov k (by omega)).mp g
        exact pk_le (st_sz s) b (fun g2 => nm_r (nI_1 s) (hJ nd hall b (Or.inr ⟨Or.inr g2, rfl⟩))) (fun g2 => nm_r (nI_1 s) (hJ nd hall _ (Or.inl ⟨hck, g2, rfl⟩)))
    · have hp0 : p ≠ 0 := by omega
      have hlt := st_next_lt (s := s) h
      have step : ∀ q, q ≠ 0 → q &&& s = q → ((p - 1) &&& s < q ↔ (q = p ∨ p < q)) := by
        intro q q0 qs
        constructor
        · intro g
          by_cases c : q < p
          · have := st_next hs hps qs c; omega
          · omega
        · intro g; omega
      have go : ∀ nd' : Nat → Int32, (∀ t, t < s → nd_ok up w nd' t) → (∃ m, m ≤ 8 ∧ nd' s = nI m ∧ ∀ κ, κ < 8 → (m ≤ κ ↔ ∃ q κ', q ≠ 0 ∧ q &&& s = q ∧ (p - 1) &&& s < q ∧ st_part up w q ∧ κ = κ' + 1 ∧ st_cov up w κ' (st_sub s q))) →
          ∀ x : Int32, x = (nI p - 1) &&& nI s → wY_most_58 post J (nI k) (yb_up up) (nI w.length) (nI b) (nI s) f n' x lt si ro cd sg nd' := by
        intro nd' hnd' hex x hx
        rw [hx, ix_m1 (by omega), nx_and]
        exact ih _ hlt n' nd' (st_next_sub s p) (by omega) hnd' hex
      have hsp := hsg p hp0 hple
      rw [nI_clamp (n := p) (by omega)]
      refine ⟨vp_in_nI (by omega) (by decide), ?_⟩
      by_cases hpart : st_part up w p
      · rw [hsp.1 hpart]
        have hsub := st_sub_lt hs hp0 hps
        obtain ⟨m', m'8, hm', hmk'⟩ := hnd _ hsub
        rw [ix_sub, nI_clamp (n := st_sub s p) (by omega), hm', nI_1 m']
        refine br_f (by decide) ⟨vp_in_nI (by omega) (by decide), vp_in_nI (by omega) (by decide), pk_le m (m' + 1) (fun g => go nd hnd ⟨m, m8, hm, fun κ hκ => ?_⟩) (fun g => ⟨vp_in_nI (by omega) (by decide), vp_in_nI (by omega) (by decide), nm_e (go _ (fun t ht => ?_) ⟨m' + 1, by omega, pk_us, fun κ hκ => ?_⟩)⟩)⟩
        · constructor
          · intro z
            obtain ⟨q, κ', q0, qs, qp, r⟩ := (hmk κ hκ).mp z
            exact ⟨q, κ', q0, qs, (step q q0 qs).mpr (Or.inr qp), r⟩
          · rintro ⟨q, κ', q0, qs, qp, qpt, rfl, qc⟩
            rcases (step q q0 qs).mp qp with e | e
            · rw [e] at qc
              have := (hmk' κ' (by omega)).mpr qc
              omega
            · exact (hmk _ hκ).mpr ⟨q, κ', q0, qs, e, qpt, rfl, qc⟩
        · obtain ⟨a, b1, c, d⟩ := hnd t ht
          exact ⟨a, b1, by rw [pk_un (by omega)]; exact c, d⟩
        · constructor
          · intro z
            cases κ with
            | zero => omega
            | succ κ' =>
              exact ⟨p, κ', hp0, hps, (step p hp0 hps).mpr (Or.inl rfl), hpart, rfl, (hmk' κ' (by omega)).mp (by omega)⟩
          · rintro ⟨q, κ', q0, qs, qp, qpt, rfl, qc⟩
            rcases (step q q0 qs).mp qp with e | e
            · rw [e] at qc
              have := (hmk' κ' (by omega)).mpr qc
              omega
            · have := (hmk _ hκ).mpr ⟨q, κ', q0, qs, e, qpt, rfl, qc⟩
              omega
      · rw [hsp.2 hpart]
        refine br_t rfl (go nd hnd ⟨m, m8, hm, fun κ hκ => ?_⟩)
        rw [hmk κ hκ]
        constructor
        · rintro ⟨q, κ', q0, qs, qp, r⟩
          exact ⟨q, κ', q0, qs, (step q q0 qs).mpr (Or.inr qp), r⟩
        · rintro ⟨q, κ', q0, qs, qp, qpt, r⟩
          rcases (step q q0 qs).mp qp with e | e
          · rw [e] at qpt; exact absurd qpt hpart
          · exact ⟨q, κ', q0, qs, e, qpt, r⟩
theorem yo_20 {post : Int32 → SY → Prop} {up : Bool} {w : List Nat} {k : Nat} (hw : w.length ≤ 7) (ho : wd_ok w) (hr : ar_H ro 0 w) (hk : k ≤ 3) (hp : ∀ sg' nd', post (nI (gr_ans up k (tb_sh (tb_W w)))) (f, lt, si, ro, cd, sg', nd')) :
    ∀ (d s n b : Nat) (sg nd : Nat → Int32), s + d = 2 ^ w.length → d < n → 1 ≤ s → b ≤ 7 → mb_B (st_cov up w k) s b → (∀ t, t ≠ 0 → t < s → sg_ok up w sg t) → (∀ t, t < s → nd_ok up w nd t) →
    wY_most_20 post (nI k) (yb_up up) (nI w.length) f n (nI b) (nI s) lt si ro cd sg nd := by
  have p7 := ix_p7 hw
  intro d
  induction d with
  | zero =>
    intro s n b sg nd hs hn h1 hb hmb hsg hnd
    obtain ⟨m, rfl⟩ : ∃ m, n = m + 1 := ⟨n - 1, by omega⟩
    have e : s = 2 ^ w.length := by omega
    rw [e] at hmb
    rw [wY_most_20]
    dsimp only
    rw [ix_pow hw, mb_ans hw hk hmb]
    exact br_t (nI_le (by omega) (by omega)) (hp _ _)
  | succ d ih =>
    intro s n b sg nd hs hn h1 hb hmb hsg hnd
    obtain ⟨m, rfl⟩ : ∃ m, n = m + 1 := ⟨n - 1, by omega⟩
    have hs128 : s < 128 := by omega
    have hz := st_sz_le s
    rw [wY_most_20]
    dsimp only
    rw [ix_pow hw]
    refine br_f (nI_ge (by omega) (by omega)) ?_
    have body : ∀ r : Nat, r < 2 → ((st_part up w s ∧ r = 1) ∨ (¬ st_part up w s ∧ r = 0)) → vp_in (nI s) 128 ∧ ∀ a_single_21, a_single_21 = upd sg (nI s).toNatClampNeg (vp_nar .boolean (nI r)) → (vp_in (nI s) 128 ∧ ∀ a_need_23, a_need_23 = upd nd (nI s).toNatClampNeg 8 → ∃ n58, wY_most_58 post (wY_most_20 post (nI k) (yb_up up) (nI w.length) f m) (nI k) (yb_up up) (nI w.length) (nI b) (nI s) f n58 (nI s) lt si ro cd a_single_21 a_need_23) := by
      intro r hr2 hcase
      rw [nI_clamp (n := s) (by omega), ix_nbt r hr2]
      have hsg' : ∀ t, t ≠ 0 → t ≤ s → sg_ok up w (upd sg s (nI r)) t := by
        intro t t0 ht
        by_cases c : t = s
        · rw [c]
          rcases hcase with ⟨g, e⟩ | ⟨g, e⟩
          · exact ⟨fun _ => by rw [pk_us, e], fun z => absurd g z⟩
          · exact ⟨fun z => absurd z g, fun _ => by rw [pk_us, e]⟩
        · obtain ⟨x, y⟩ := hsg t t0 (by omega)
          exact ⟨fun z => by rw [pk_un c]; exact x z, fun z => by rw [pk_un c]; exact y z⟩
      refine ⟨vp_in_nI hs128 (by decide), nm_e ⟨vp_in_nI hs128 (by decide), nm_e ⟨s + 1, yo_58 hs128 (by omega) hk hb hsg' (fun nd' hnd' b' hb' => ?_) s (s + 1) _ (Nat.and_self s) (by omega) (fun t ht => ?_) ⟨8, Nat.le_refl _, pk_us, fun κ hκ => ?_⟩⟩⟩⟩
      · refine ih (s + 1) m b' _ nd' (by omega) (by omega) (by omega) ?_ ?_ (fun t t0 ht => hsg' t t0 (by omega)) hnd'
        · rcases hb' with ⟨_, _, e⟩ | ⟨_, e⟩ <;> omega
        · rcases hb' with ⟨g1, g2, e⟩ | ⟨g1, e⟩
          · rw [e]; exact mb_new hmb g1 g2
          · rw [e]; exact mb_skip hmb g1
      · obtain ⟨a, b1, c, e⟩ := hnd t ht
        exact ⟨a, b1, by rw [pk_un (by omega)]; exact c, e⟩
      · constructor
        · intro z; omega
        · rintro ⟨q, κ', q0, qs, qp, _⟩
          have : q &&& s ≤ s := Nat.and_le_right
          omega
    refine yi_wp hw ho hr hs128 (fun g => body 1 (by decide) (Or.inl ⟨g, rfl⟩)) (fun g => body 0 (by decide) (Or.inr ⟨g, rfl⟩))
theorem yo_wp {post : Int32 → SY → Prop} {up : Bool} {j : Nat} {w : List Nat} {k : Nat} (hj : j < 2) (hw : w.length ≤ 7) (ho : wd_ok w) (hs : si j = nI w.length) (hl : ar_H lt (7 * j) w) (hk : k ≤ 3) (hp : ∀ ro' sg' nd', post (nI (gr_ans up k (tb_sh (tb_W w)))) (f, lt, si, ro', cd, sg', nd')) :
    wpY_most post (f, lt, si, ro, cd, sg, nd) (nI j) (nI k) (yb_up up) := by
  have hp2 : 1 ≤ 2 ^ w.length := Nat.one_le_two_pow
  unfold wpY_most
  dsimp only
  refine yt_wp hj hw hs hl (fun ro' hr => ?_)
  dsimp only
  refine nm_e ⟨2 ^ w.length + 1, yo_20 hw ho hr hk (fun sg' nd' => hp ro' sg' nd') (2 ^ w.length - 1) 1 _ 0 sg _ (by omega) (by omega) (Nat.le_refl _) (Nat.zero_le _) (mb_0 (st_cov_0 up w k)) (fun t t0 ht => by omega) (fun t ht => ?_)⟩
  have e : t = 0 := by omega
  rw [e]
  exact ⟨0, by omega, pk_us, fun κ _ => ⟨fun _ => st_cov_0 up w κ, fun _ => Nat.zero_le _⟩⟩
end
end
section
/-! rising, falling, risingOf -/
section
variable {f : Int32} {cn wo en le lf ll tr ca co : Nat → Int32}
theorem xg_24 {post : Int32 → Prop} {j k : Nat} {l : List Nat} (hj : j < 2) (hk : k ≤ 3) (hl : ∀ r, r < 7 → le (7 * j + r) = nI (sh_at l r)) (hp : post (nI (sm_n k (sh_at l)))) :
    ∀ (d r n : Nat), r + d = k → d < n → wX_rising_24 post (nI j) (nI k) f cn wo en le lf ll tr ca co n (nI (sm_n r (sh_at l))) (nI r) := by
  intro d
  induction d with
  | zero =>
    intro r n hr hn
    obtain ⟨m, rfl⟩ : ∃ m, n = m + 1 := ⟨n - 1, by omega⟩
    have e : r = k := by omega
    subst e
    rw [wX_rising_24]
    exact br_t (nI_le (by omega) (by omega)) hp
  | succ d ih =>
    intro r n hr hn
    obtain ⟨m, rfl⟩ : ∃ m, n = m + 1 := ⟨n - 1, by omega⟩
    rw [wX_rising_24]
    dsimp only
    rw [ix_7, nI_clamp (by omega), hl r (by omega), nI_add]
    exact br_f (nI_ge (by omega) (by omega)) ⟨vp_in_nI (by omega) (by decide), nm_e (nm_r (nI_1 r) (ih (r + 1) m (by omega) (by omega)))⟩
theorem xp_24 {post : Int32 → Prop} {j k : Nat} {l : List Nat} (hj : j < 2) (hk : k ≤ 3) (hl : ∀ r, r < 7 → le (7 * j + r) = nI (sh_at l r)) (h7 : ∀ r, sh_at l r ≤ 7) (hp : post (nI (sm_n 7 (fun r => min k (sh_at l r))))) :
    ∀ (d r n : Nat), r + d = 7 → d < n → wX_falling_24 post (nI j) (nI k) f cn wo en le lf ll tr ca co n (nI (sm_n r (fun r => min k (sh_at l r)))) (nI r) := by
  intro d
  induction d with
  | zero =>
    intro r n hr hn
    obtain ⟨m, rfl⟩ : ∃ m, n = m + 1 := ⟨n - 1, by omega⟩
    have e : r = 7 := by omega
    subst e
    rw [wX_falling_24]
    exact br_t (nI_le (a := 7) (by omega) (by omega)) hp
  | succ d ih =>
    intro r n hr hn
    obtain ⟨m, rfl⟩ : ∃ m, n = m + 1 := ⟨n - 1, by omega⟩
    have g7 := h7 r
    have hi := ih (r + 1) m (by omega) (by omega)
    have es : sm_n (r + 1) (fun r => min k (sh_at l r)) = sm_n r (fun r => min k (sh_at l r)) + min k (sh_at l r) := rfl
    rw [wX_falling_24]
    dsimp only
    rw [ix_7, nI_clamp (by omega), hl r (by omega)]
    refine br_f (nI_ge (b := 7) (by omega) (by decide)) ⟨vp_in_nI (by omega) (by decide), nm_e (pk_le k (sh_at l r) (fun h => nm_r (nI_add _ _) (nm_r (nI_1 r) ?_)) (fun h => nm_r (nI_add _ _) (nm_r (nI_1 r) ?_)))⟩
    · rw [es, Nat.min_eq_left h] at hi; exact hi
    · rw [es, Nat.min_eq_right (by omega)] at hi; exact hi
end
theorem ix_k3 {x : Int32} (h0 : ¬ x < 0) (h3 : x ≤ 3) : ∃ k : Nat, k ≤ 3 ∧ x = nI k := nI_of2 (M := 3) (n := 3) (by decide) h0 h3
theorem i_vc_rising {k : Nat} {u : SX} {v : SY} (I : i_Rel k u v) (hk : k + 3 ≤ 1536) (v1 : Int32) (v2 : Int32) : wpX_rising (fun r => wpY_rising (fun r' v' => r' = r ∧ i_Rel (k + 3) u v') v v1 v2) u v1 v2 := by
  obtain ⟨f, cn, wo, en, le, lf, ll, tr, ca, co⟩ := u
  obtain ⟨g, lt, si, ro, cd, sg, nd⟩ := v
  have I0 := I
  obtain ⟨W, hW, hX, hY⟩ := I
  unfold wpX_rising
  dsimp only
  rcases ix_word v1 with hb | ⟨j, hj, rfl⟩
  · refine xb_bad hb (br_f (by decide) ?_)
    unfold wpY_rising
    exact yb_bad hb (br_f (by decide) ⟨rfl, I0⟩)
  · obtain ⟨c1, c2, c3⟩ := hX j hj
    obtain ⟨d1, d2⟩ := hY j hj
    obtain ⟨w7, wok⟩ := hW j hj
    dsimp only at c1 c2 c3 d1 d2
    refine xb_ok hj (br_t rfl ?_)
    by_cases h0 : v2 < 0
    · refine br_t h0 ?_
      unfold wpY_rising
      exact yb_ok hj (br_t rfl (br_t h0 ⟨rfl, I0⟩))
    · refine br_f h0 ?_
      by_cases h3 : v2 ≤ 3
      · obtain ⟨q, hq, rfl⟩ := ix_k3 h0 h3
        refine br_t h3 ⟨4, xg_24 (l := tb_sh (tb_W (W j))) hj hq (fun r hr => by rw [sh_at_T]; exact (c3.2 r hr).1) ?_ q 0 4 (by omega) (by omega)⟩
        unfold wpY_rising
        dsimp only
        refine yb_ok hj (br_t rfl (br_f h0 (br_t h3 ?_)))
        exact yo_wp (up := true) hj w7 wok d1 d2 hq (fun ro' sg' nd' => ⟨rfl, I0⟩)
      · refine br_f h3 ?_
        unfold wpY_rising
        exact yb_ok hj (br_t rfl (br_f h0 (br_f h3 ⟨rfl, I0⟩)))
theorem i_vc_falling {k : Nat} {u : SX} {v : SY} (I : i_Rel k u v) (hk : k + 3 ≤ 1536) (v1 : Int32) (v2 : Int32) : wpX_falling (fun r => wpY_falling (fun r' v' => r' = r ∧ i_Rel (k + 3) u v') v v1 v2) u v1 v2 := by
  obtain ⟨f, cn, wo, en, le, lf, ll, tr, ca, co⟩ := u
  obtain ⟨g, lt, si, ro, cd, sg, nd⟩ := v
  have I0 := I
  obtain ⟨W, hW, hX, hY⟩ := I
  unfold wpX_falling
  dsimp only
  rcases ix_word v1 with hb | ⟨j, hj, rfl⟩
  · refine xb_bad hb (br_f (by decide) ?_)
    unfold wpY_falling
    exact yb_bad hb (br_f (by decide) ⟨rfl, I0⟩)
  · obtain ⟨c1, c2, c3⟩ := hX j hj
    obtain ⟨d1, d2⟩ := hY j hj
    obtain ⟨w7, wok⟩ := hW j hj
    dsimp only at c1 c2 c3 d1 d2
    refine xb_ok hj (br_t rfl ?_)
    by_cases h0 : v2 < 0
    · refine br_t h0 ?_
      unfold wpY_falling
      exact yb_ok hj (br_t rfl (br_t h0 ⟨rfl, I0⟩))
    · refine br_f h0 ?_
      by_cases h3 : v2 ≤ 3
      · obtain ⟨q, hq, rfl⟩ := ix_k3 h0 h3
        refine br_t h3 ⟨8, xp_24 (l := tb_sh (tb_W (W j))) hj hq (fun r hr => by rw [sh_at_T]; exact (c3.2 r hr).1) (fun r => by rw [sh_at_T]; have := tb_W_le w7 r; omega) ?_ 7 0 8 rfl (by omega)⟩
        unfold wpY_falling
        dsimp only
        refine yb_ok hj (br_t rfl (br_f h0 (br_t h3 ?_)))
        exact yo_wp (up := false) hj w7 wok d1 d2 hq (fun ro' sg' nd' => ⟨rfl, I0⟩)
      · refine br_f h3 ?_
        unfold wpY_falling
        exact yb_ok hj (br_t rfl (br_f h0 (br_f h3 ⟨rfl, I0⟩)))
section
variable {f : Int32} {lt si ro cd sg nd : Nat → Int32}
theorem yr_35 {post : Int32 → SY → Prop} {w : List Nat} (hw : w.length ≤ 7) (ho : wd_ok w) (hr : ar_H ro 0 w) (hp : post (nI (gr_ans true 1 (tb_sh (tb_W w)))) (f, lt, si, ro, cd, sg, nd)) :
    ∀ (d s n b : Nat), s + d = 2 ^ w.length → d < n → 1 ≤ s → b ≤ 7 → mb_B (st_cov true w 1) s b → wY_risingOf_35 post (nI w.length) f lt si ro cd sg nd n (nI b) (nI s) := by
  have p7 := ix_p7 hw
  intro d
  induction d with
  | zero =>
    intro s n b hs hn h1 hb hmb
    obtain ⟨m, rfl⟩ : ∃ m, n = m + 1 := ⟨n - 1, by omega⟩
    have e : s = 2 ^ w.length := by omega
    rw [e] at hmb
    rw [wY_risingOf_35]
    dsimp only
    rw [ix_pow hw, mb_ans hw (by omega) hmb]
    exact br_t (nI_le (by omega) (by omega)) hp
  | succ d ih =>
    intro s n b hs hn h1 hb hmb
    obtain ⟨m, rfl⟩ : ∃ m, n = m + 1 := ⟨n - 1, by omega⟩
    have hs128 : s < 128 := by omega
    have hz := st_sz_le s
    rw [wY_risingOf_35]
    dsimp only
    rw [ix_pow hw]
    refine br_f (nI_ge (by omega) (by omega)) (yz_wp hs128 (pk_le (st_sz s) b (fun g => nm_r (nI_1 s) (ih (s + 1) m b (by omega) (by omega) (by omega) hb (mb_skip hmb (Or.inr g)))) (fun g => ?_)))
    refine yi_wp (up := true) hw ho hr hs128 (fun z => br_f (by decide) (nm_r (nI_1 s) (ih (s + 1) m _ (by omega) (by omega) (by omega) hz (mb_new hmb ((st_cov_1 hs128).mpr z) g)))) (fun z => br_t rfl (nm_r (nI_1 s) (ih (s + 1) m b (by omega) (by omega) (by omega) hb (mb_skip hmb (Or.inl (fun y => z ((st_cov_1 hs128).mp y)))))))
end
theorem ix_upto (x : Int32) {n : Nat} (hn : n ≤ 7) (h0 : ¬ x < 0) : (∃ m, m ≤ n ∧ x = nI m) ∨ ¬ x ≤ nI n := by
  obtain ⟨m, hm, rfl⟩ := nI_of h0
  by_cases c : m ≤ n
  · exact Or.inl ⟨m, c, rfl⟩
  · exact Or.inr (nI_ge (by omega) hm)
theorem i_vc_risingOf {k : Nat} {u : SX} {v : SY} (I : i_Rel k u v) (hk : k + 3 ≤ 1536) (v1 : Int32) (v2 : Int32) : wpX_risingOf (fun r u' => wpY_risingOf (fun r' v' => r' = r ∧ i_Rel (k + 3) u' v') v v1 v2) u v1 v2 := by
  obtain ⟨f, cn, wo, en, le, lf, ll, tr, ca, co⟩ := u
  obtain ⟨g, lt, si, ro, cd, sg, nd⟩ := v
  have I0 := I
  obtain ⟨W, hW, hX, hY⟩ := I
  unfold wpX_risingOf
  dsimp only
  rcases ix_word v1 with hb | ⟨j, hj, rfl⟩
  · refine xb_bad hb (br_f (by decide) ?_)
    unfold wpY_risingOf
    exact yb_bad hb (br_f (by decide) ⟨rfl, I0⟩)
  · obtain ⟨c1, c2, c3⟩ := hX j hj
    obtain ⟨d1, d2⟩ := hY j hj
    obtain ⟨w7, wok⟩ := hW j hj
    dsimp only at c1 c2 c3 d1 d2
    refine xb_ok hj (br_t rfl ?_)
    by_cases h0 : v2 < 0
    · refine br_t h0 ?_
      unfold wpY_risingOf
      exact yb_ok hj (br_t rfl (br_t h0 ⟨rfl, I0⟩))
    · refine br_f h0 ⟨vp_in_nI hj (by decide), ?_⟩
      rw [nI_clamp (n := j) (by omega), c1]
      rcases ix_upto v2 w7 h0 with ⟨q, hq, rfl⟩ | hbig
      · refine br_t (nI_le hq (by omega)) (xr_wp hj w7 hq wok c2 (fun en' le' ht hf' => ?_))
        have hl0 := (ht.2 0 (by decide)).1
        rw [Nat.add_zero] at hl0
        dsimp only
        rw [c1, ix_70, nI_clamp (n := 7 * j) (by omega), hl0]
        refine ⟨vp_in_nI (by omega) (by decide), nm_e ⟨vp_in_nI hj (by decide), xr_wp hj w7 (Nat.le_refl _) wok c2 (fun en2 le2 ht2 hf2 => ?_)⟩⟩
        rw [List.take_length] at ht2
        unfold wpY_risingOf
        dsimp only
        refine yb_ok hj (br_t rfl (br_f h0 ⟨vp_in_nI hj (by decide), ?_⟩))
        rw [nI_clamp (n := j) (by omega), d1]
        refine br_t (nI_le hq (by omega)) (yt_wp hj w7 d1 d2 (fun ro' hr => ?_))
        dsimp only
        have htl : ((W j).take q).length = q := by rw [List.length_take]; omega
        have hp2 : 1 ≤ 2 ^ ((W j).take q).length := Nat.one_le_two_pow
        refine ⟨2 ^ ((W j).take q).length + 1, ?_⟩
        have hX2 : rl_X cn wo en2 le2 (rl_set W j (W j)) := rl_X_set hW hX c1 (fun _ _ => rfl) c2 (wo_fr_r _ _) ht2 (tA_fr_t hf' hf2)
        have hY2 : rl_Y lt si (rl_set W j (W j)) := rl_Y_set hW hY d1 (fun _ _ => rfl) d2 (wo_fr_r _ _)
        have key := yr_35 (f := g) (lt := lt) (si := si) (cd := cd) (sg := sg) (nd := nd) (ro := ro') (w := (W j).take q)
          (post := fun r' v' => r' = nI ((tb_W ((W j).take q)).getD 0 []).length ∧ i_Rel (k + 3) (f, cn, wo, en2, le2, lf, ll, tr, ca, co) v')
          (by omega) (wd_take wok q) (ar_tk hr) ⟨?_, rl_set W j (W j), rl_W_set hW w7 wok, hX2, hY2⟩ (2 ^ ((W j).take q).length - 1) 1 (2 ^ ((W j).take q).length + 1) 0 (by omega) (by omega) (Nat.le_refl _) (Nat.zero_le _) (mb_0 (st_cov_0 true _ 1))
        · rw [htl] at key ⊢
          exact key
        · show nI (sm_n 1 (sh_at (tb_sh (tb_W ((W j).take q))))) = _
          show nI (0 + sh_at (tb_sh (tb_W ((W j).take q))) 0) = _
          rw [Nat.zero_add, sh_at_T]
      · refine br_f hbig ?_
        unfold wpY_risingOf
        dsimp only
        refine yb_ok hj (br_t rfl (br_f h0 ⟨vp_in_nI hj (by decide), ?_⟩))
        rw [nI_clamp (n := j) (by omega), d1]
        exact br_f hbig ⟨rfl, I0⟩
end
section
/-! the component: corners taken off, level by level -/
theorem lb_char : ∀ (R : List Nat) (y c : Nat), c < R.length → (∀ i, c < i → i < R.length → y ≤ R.getD i 0) → (∀ i, 1 ≤ i → i ≤ c → R.getD i 0 < y) → rs_un R y = (R.set c y, R.getD c 0) := by
  intro R
  induction R with
  | nil => intro y c h; exact absurd h (Nat.not_lt_zero _)
  | cons a R ih =>
    intro y c hc h1 h2
    cases c with
    | zero =>
      refine rs_un_at ?_
      cases R with
      | nil => exact Nat.lt_irrefl _
      | cons r R => have := h1 1 (by omega) (by simp); exact Nat.not_lt.mpr this
    | succ c =>
      have hc' : c < R.length := Nat.lt_of_succ_lt_succ hc
      have hh : R.headD y < y := by
        cases R with
        | nil => exact absurd hc' (Nat.not_lt_zero _)
        | cons r R => exact h2 1 (by omega) (by omega)
      rw [rs_un_on hh, ih y c hc' (fun i g1 g2 => h1 (i + 1) (by omega) (Nat.succ_lt_succ g2)) (fun i g1 g2 => h2 (i + 1) (by omega) (by omega))]
      rfl
theorem sh_cor_get : ∀ (l : List Nat) (r : Nat), r < l.length → sh_cor l r = decide (l.getD (r + 1) 0 < l.getD r 0) := by
  intro l
  induction l with
  | nil => intro r h; exact absurd h (Nat.not_lt_zero _)
  | cons a l ih =>
    intro r h
    cases r with
    | zero => cases l <;> rfl
    | succ r => exact ih r (Nat.lt_of_succ_lt_succ h)
theorem sh_cor_T {T : List (List Nat)} (h7 : T.length = 7) {r : Nat} (hr : r < 7) : sh_cor (tb_sh T) r = true ↔ (T.getD (r + 1) []).length < (T.getD r []).length := by
  rw [sh_cor_get _ _ (by rw [tb_sh, List.length_map, h7]; exact hr), decide_eq_true_eq]
  have a := sh_at_T T r
  have b := sh_at_T T (r + 1)
  rw [sh_at] at a b
  rw [a, b]
theorem tb_V_drop : ∀ (q : Nat) (T : List (List Nat)), tb_V T → tb_V (T.drop q) := by
  intro q
  induction q with
  | zero => intro T h; exact h
  | succ q ih =>
    intro T h
    cases T with
    | nil => exact h
    | cons R T => exact ih T h.2.2
theorem sh_cor_drop : ∀ (q r : Nat) (T : List (List Nat)), q ≤ r → sh_cor (tb_sh (T.drop q)) (r - q) = sh_cor (tb_sh T) r := by
  intro q
  induction q with
  | zero => intro r T _; rfl
  | succ q ih =>
    intro r T h
    cases T with
    | nil =>
      have e : ∀ n, sh_cor (tb_sh ([] : List (List Nat))) n = false := fun n => by cases n <;> rfl
      rw [List.drop_nil, e, e]
    | cons R T =>
      obtain ⟨r', rfl⟩ : ∃ r', r = r' + 1 := ⟨r - 1, by omega⟩
      rw [Nat.add_sub_add_right]
      exact ih r' T (by omega)
theorem tb_un_head {S : List Nat} {T : List (List Nat)} {r : Nat} (hV : tb_V (S :: T)) (hc : sh_cor (tb_sh T) r = true) : ∃ s S0, S = s :: S0 ∧ s < (tb_un T r).2 := by
  have h' : rs_S S ∧ tb_dom S (T.headD []) ∧ tb_V T := hV
  have i4 := (tb_put_un T r h'.2.2 hc).2.2.2.1
  cases T with
  | nil => cases r <;> cases hc
  | cons Q T =>
    have i4' : (tb_un (Q :: T) r).2 ∈ Q := i4
    have hdQ : tb_dom S Q := h'.2.1
    cases Q with
    | nil => cases i4'
    | cons q Q =>
      cases S with
      | nil => exact hdQ.elim
      | cons s S =>
        have hd' : s < q ∧ tb_dom S Q := hdQ
        refine ⟨s, S, rfl, ?_⟩
        have hQ : rs_S (q :: Q) := h'.2.2.1
        rcases List.mem_cons.mp i4' with e | e
        · omega
        · have := (List.pairwise_cons.mp hQ).1 _ e; omega
theorem tb_8_drop {T : List (List Nat)} (h : tb_8 T) (q : Nat) : tb_8 (T.drop q) := fun R hR => h R (List.mem_of_mem_drop hR)
theorem tb_un_lt8 {T : List (List Nat)} {r : Nat} (hV : tb_V T) (hc : sh_cor (tb_sh T) r = true) (h8 : tb_8 T) : (tb_un T r).2 < 8 := by
  have i4 := (tb_put_un T r hV hc).2.2.2.1
  cases T with
  | nil => cases i4
  | cons Q T => exact h8 Q List.mem_cons_self _ i4
theorem tb_un_8 : ∀ (T : List (List Nat)) (r : Nat), tb_V T → sh_cor (tb_sh T) r = true → tb_8 T → tb_8 (tb_un T r).1 := by
  intro T
  induction T with
  | nil => intro r _ h; cases r <;> cases h
  | cons R T ih =>
    intro r hV hc h8
    have h' : rs_S R ∧ tb_dom R (T.headD []) ∧ tb_V T := hV
    have hR := h8 R List.mem_cons_self
    have hT : tb_8 T := fun Q hQ => h8 Q (List.mem_cons_of_mem _ hQ)
    cases r with
    | zero =>
      rw [tb_un_0]
      intro Q hQ y hy
      rcases List.mem_cons.mp hQ with e | e
      · rw [e] at hy; exact hR y ((List.dropLast_sublist R).subset hy)
      · exact hT Q e y hy
    | succ r =>
      have hc' : sh_cor (tb_sh T) r = true := hc
      rw [tb_un_1]
      intro Q hQ y hy
      rcases List.mem_cons.mp hQ with e | e
      · rw [e] at hy
        rcases rs_un_mem R _ y hy with g | g
        · rw [g]; exact tb_un_lt8 h'.2.2 hc' hT
        · exact hR y g
      · exact ih r h'.2.2 hc' hT Q e y hy
theorem ls_last_get {R : List Nat} (h : R ≠ []) : R.getD (R.length - 1) 0 = R.getLastD 0 := by
  rw [List.getLastD_eq_getLast?, List.getLast?_eq_getElem?, List.getD_eq_getElem?_getD]
theorem ls_take_app {T D : List (List Nat)} {q : Nat} (h : q < T.length) (Q : List Nat) : (T.take (q + 1) ++ D).set q Q = T.take q ++ Q :: D ∧ (T.take (q + 1) ++ D).getD q [] = T.getD q [] := by
  have e : T.take (q + 1) = T.take q ++ [T.getD q []] := by
    rw [List.take_succ, List.getD_eq_getElem?_getD, List.getElem?_eq_getElem h]; rfl
  have el : (T.take q).length = q := by rw [List.length_take]; omega
  rw [e]
  constructor
  · rw [List.append_assoc, List.set_append_right q Q (by omega), el, Nat.sub_self]; rfl
  · rw [List.append_assoc, List.getD_eq_getElem?_getD, List.getElem?_append_right (by omega), el, Nat.sub_self]; rfl
/-- rows copied cell by cell -/
theorem tA_copy {sr sl lf ll : Nat → Int32} {a b : Nat} {T : List (List Nat)} (h8 : tb_8 T) (hT : tA_H sr sl a T) (he : ∀ q, q < 49 → lf (49 * b + q) = vp_nar .byte (sr (49 * a + q))) (hl : ∀ q, q < 7 → ll (7 * b + q) = vp_nar .byte (sl (7 * a + q))) : tA_H lf ll b T := by
  refine ⟨hT.1, fun r hr => ?_⟩
  obtain ⟨h1, h2, h3⟩ := hT.2 r hr
  refine ⟨?_, fun i hi => ?_, h3⟩
  · rw [hl r hr, h1, ix_n _ (by omega)]
  · have hy := h8 _ (ls_rmem (by rw [hT.1]; exact hr)) _ (ls_getD_mem hi)
    rw [Nat.add_assoc, he (7 * r + i) (by omega), ← Nat.add_assoc, h2 i hi, ix_n _ (by omega)]
section
variable {f : Int32} {cn wo en le lf ll tr ca co : Nat → Int32}
theorem xq_wp {post : Int32 → Prop} {l r : Nat} {T : List (List Nat)} (hl : l ≤ 7) (hr : r < 7) (hT : tA_H lf ll l T) (h1 : sh_cor (tb_sh T) r = true → post 1) (h0 : ¬ sh_cor (tb_sh T) r = true → post 0) :
    wpX_isCorner post (f, cn, wo, en, le, lf, ll, tr, ca, co) (nI l) (nI r) := by
  rw [sh_cor_T hT.1 hr] at h1 h0
  obtain ⟨a1, a2, a3⟩ := hT.2 r hr
  unfold wpX_isCorner
  dsimp only
  rw [ix_7, nI_clamp (by omega), a1, nI_1, nI_1]
  refine ⟨vp_in_nI (by omega) (by decide), nm_e (pk_le 7 (r + 1) (fun h => ?_) (fun h => ⟨vp_in_nI (by omega) (by decide), ?_⟩))⟩
  · have e : r = 6 := by omega
    have e2 : T.getD (r + 1) [] = [] := by
      rw [List.getD_eq_getElem?_getD, List.getElem?_eq_none (by rw [hT.1]; omega)]; rfl
    rw [e2] at h1 h0
    rw [wX_isCorner_37]
    exact pk_le (T.getD r []).length 0 (fun g => h0 (fun z => by have z' : 0 < (T.getD r []).length := z; omega)) (fun g => h1 g)
  · obtain ⟨b1, b2, b3⟩ := hT.2 (r + 1) h
    rw [nI_clamp (by omega), Nat.add_assoc, b1, wX_isCorner_37]
    exact pk_le (T.getD r []).length (T.getD (r + 1) []).length (fun g => h0 (by omega)) (fun g => h1 g)
theorem xj_15 {post : Int32 → Prop} {l r y : Nat} {R : List Nat} (hl : l ≤ 7) (hr : r < 7) (hy : y < 8) (h7 : R.length ≤ 7) (hS : rs_S R) (hR8 : ∀ z, z ∈ R → z < 8) (he : ar_H lf (49 * l + 7 * r) R) (hp : ∀ c, c < R.length → rs_un R y = (R.set c y, R.getD c 0) → post (nI c)) :
    ∀ (c n : Nat), c < R.length → c < n → (∀ i, c < i → i < R.length → y ≤ R.getD i 0) → wX_lastBelow_15 post (nI l) (nI r) (nI y) f cn wo en le lf ll tr ca co n (nI c) := by
  intro c
  induction c with
  | zero =>
    intro n hc hn hi
    obtain ⟨m, rfl⟩ : ∃ m, n = m + 1 := ⟨n - 1, by omega⟩
    rw [wX_lastBelow_15]
    exact br_t (nI_le (b := 0) (by omega) (by omega)) (hp 0 hc (lb_char R y 0 hc hi (fun i a b => by omega)))
  | succ c ih =>
    intro n hc hn hi
    obtain ⟨m, rfl⟩ : ∃ m, n = m + 1 := ⟨n - 1, by omega⟩
    have h8 := hR8 _ (ls_getD_mem hc)
    rw [wX_lastBelow_15]
    dsimp only
    rw [ix_49, nI_clamp (by omega), he _ hc]
    refine br_f (nI_nle (by omega) (by omega)) ⟨vp_in_nI (by omega) (by decide), pk_lt (R.getD (c + 1) 0) y (fun g => hp _ hc (lb_char R y (c + 1) hc hi (fun i a b => ?_))) (fun g => nm_r (pk_m1 c) (ih m (by omega) (by omega) (fun i a b => ?_)))⟩
    · by_cases e : i = c + 1
      · rw [e]; exact g
      · have hii : i < R.length := by omega
        have := List.pairwise_iff_getElem.mp hS i (c + 1) hii hc (by omega)
        have e1 : R.getD i 0 = R[i] := by rw [List.getD_eq_getElem?_getD, List.getElem?_eq_getElem hii]; rfl
        have e2 : R.getD (c + 1) 0 = R[c + 1] := by rw [List.getD_eq_getElem?_getD, List.getElem?_eq_getElem hc]; rfl
        omega
    · by_cases e : i = c + 1
      · rw [e]; exact g
      · exact hi i (by omega) b
theorem xj_wp {post : Int32 → Prop} {l r y : Nat} {R : List Nat} (hl : l ≤ 7) (hr : r < 7) (hy : y < 8) (h7 : R.length ≤ 7) (h0 : R ≠ []) (hS : rs_S R) (hR8 : ∀ z, z ∈ R → z < 8) (hll : ll (7 * l + r) = nI R.length) (he : ar_H lf (49 * l + 7 * r) R) (hp : ∀ c, c < R.length → rs_un R y = (R.set c y, R.getD c 0) → post (nI c)) :
    wpX_lastBelow post (f, cn, wo, en, le, lf, ll, tr, ca, co) (nI l) (nI r) (nI y) := by
  have hpos : 0 < R.length := List.length_pos_iff.mpr h0
  unfold wpX_lastBelow
  dsimp only
  rw [ix_7, nI_clamp (by omega), hll, ix_m1 (by omega)]
  exact ⟨vp_in_nI (by omega) (by decide), nm_e ⟨8, xj_15 hl hr hy h7 hS hR8 he hp (R.length - 1) 8 (by omega) (by omega) (fun i a b => by omega)⟩⟩
/-- each row above gives an entry out -/
theorem xw_133 {post : SX → Prop} {l r : Nat} {T : List (List Nat)} (hl : l < 7) (hr : r < 7) (h7 : T.length = 7) (hV : tb_V T) (hc : sh_cor (tb_sh T) r = true) (h8 : tb_8 T) (hlen : ∀ q, q < 7 → (T.getD q []).length ≤ 7) :
    ∀ (q n : Nat) (lf : Nat → Int32), q ≤ r → q < n → tA_H lf ll l (T.take q ++ (tb_un (T.drop q) (r - q)).1) →
    (∀ lf', tA_H lf' ll l (tb_un T r).1 → (∀ k, 49 * (l + 1) ≤ k → lf' k = lf k) → post (f, cn, wo, en, le, lf', ll, upd tr l (nI 0), upd ca l (nI (tb_un T r).2), co)) →
    wX_takeOff_133 post (nI l) f n (nI (tb_un (T.drop q) (r - q)).2) (nI q - 1) cn wo en le lf ll tr ca co := by
  intro q
  induction q with
  | zero =>
    intro n lf hq hn hT hp
    obtain ⟨m, rfl⟩ : ∃ m, n = m + 1 := ⟨n - 1, by omega⟩
    have hx := tb_un_lt8 hV hc h8
    rw [wX_takeOff_133]
    dsimp only
    rw [nI_clamp (n := l) (by omega), ix_n0]
    refine br_t (by decide) ⟨vp_in_nI (by omega) (by decide), nm_r (e' := upd ca l (nI (tb_un T r).2)) ?_ ⟨vp_in_nI (by omega) (by decide), nm_e (hp lf hT (fun _ _ => rfl))⟩⟩
    show upd ca l (vp_nar .byte (nI (tb_un T r).2).toInt8.toInt32) = _
    rw [ix_nb _ (by omega)]
  | succ q ih =>
    intro n lf hq hn hT hp
    obtain ⟨m, rfl⟩ : ∃ m, n = m + 1 := ⟨n - 1, by omega⟩
    have hqT : q < T.length := by omega
    have hcd : sh_cor (tb_sh (T.drop (q + 1))) (r - (q + 1)) = true := by rw [sh_cor_drop _ _ _ hq]; exact hc
    have hVd := tb_V_drop (q + 1) T hV
    have hx := tb_un_lt8 hVd hcd (tb_8_drop h8 _)
    have hVq := tb_V_drop q T hV
    have hcut := ls_rcut hqT
    rw [hcut] at hVq
    obtain ⟨s, S0, eS, hs⟩ := tb_un_head hVq hcd
    have hSr : rs_S (T.getD q []) := hVq.1
    have h8q := h8 _ (ls_rmem hqT)
    have hla := fun Q => ls_take_app (T := T) (D := (tb_un (T.drop (q + 1)) (r - (q + 1))).1) hqT Q
    obtain ⟨a1, a2, a3⟩ := hT.2 q (by omega)
    rw [(hla []).2] at a1 a2 a3
    have hun : tb_un (T.drop q) (r - q) = ((rs_un (T.getD q []) (tb_un (T.drop (q + 1)) (r - (q + 1))).2).1 :: (tb_un (T.drop (q + 1)) (r - (q + 1))).1, (rs_un (T.getD q []) (tb_un (T.drop (q + 1)) (r - (q + 1))).2).2) := by
      have e : r - q = (r - (q + 1)) + 1 := by omega
      rw [hcut, e, tb_un_1]
    rw [wX_takeOff_133]
    dsimp only
    rw [nI_pred]
    refine br_f (nI_pos (by omega)) (xj_wp (by omega) (by omega) hx a3 (by rw [eS]; simp) hSr h8q a1 a2 (fun c hc' hrs => ?_))
    rw [hrs] at hun
    have hcv := h8q _ (ls_getD_mem hc')
    rw [ix_49]
    refine nm_e ?_
    rw [nI_clamp (by omega), a2 c hc', ix_nb _ (by omega), ix_pm]
    refine ⟨vp_in_nI (by omega) (by decide), nm_e ⟨vp_in_nI (by omega) (by decide), nm_e (nm_e ?_)⟩⟩
    have hput := tA_put (x := (tb_un (T.drop (q + 1)) (r - (q + 1))).2) hT (show q < 7 by omega) (show c < ((T.take (q + 1) ++ (tb_un (T.drop (q + 1)) (r - (q + 1))).1).getD q []).length by rw [(hla []).2]; exact hc')
    rw [(hla []).2, (hla _).1] at hput
    have hi := ih m (upd lf (49 * l + 7 * q + c) (nI (tb_un (T.drop (q + 1)) (r - (q + 1))).2)) (by omega) (by omega) (by rw [hun]; exact hput) (fun lf' g1 g2 => hp lf' g1 (fun k hk => by rw [g2 k hk, pk_un (by omega)]))
    rw [hun] at hi
    exact hi
theorem xw_47 {post : SX → Prop} {l r : Nat} {T : List (List Nat)} (hl : l < 7) (hr : r < 7) (h7 : T.length = 7) (hV : tb_V T) (hc : sh_cor (tb_sh T) r = true) (h8 : tb_8 T) (hsl : ∀ q, q < 49 → lf (49 * l + q) = vp_nar .byte (lf (49 * (l + 1) + q))) :
    ∀ (d k n : Nat) (ll : Nat → Int32), k + d = 7 → d < n → tA_H lf ll (l + 1) T → (∀ q, q < k → ll (7 * l + q) = vp_nar .byte (ll (7 * (l + 1) + q))) →
    (∀ lf' ll', tA_H lf' ll' l (tb_un T r).1 → (∀ k, 49 * (l + 1) ≤ k → lf' k = lf k) → (∀ k, 7 * (l + 1) ≤ k → ll' k = ll k) → post (f, cn, wo, en, le, lf', ll', upd tr l (nI 0), upd ca l (nI (tb_un T r).2), co)) →
    wX_takeOff_47 post (nI (l + 1)) (nI r) (nI l) f n (nI k) cn wo en le lf ll tr ca co := by
  intro d
  induction d with
  | zero =>
    intro k n ll hk hn hT hq hp
    obtain ⟨m, rfl⟩ : ∃ m, n = m + 1 := ⟨n - 1, by omega⟩
    have hcp : tA_H lf ll l T := tA_copy h8 hT hsl (fun q hq' => hq q (by omega))
    obtain ⟨a1, a2, a3⟩ := hcp.2 r hr
    obtain ⟨b1, b2, b3⟩ := hT.2 r hr
    have hcr := (sh_cor_T h7 hr).mp hc
    have hne : T.getD r [] ≠ [] := by intro e; rw [e] at hcr; exact absurd hcr (Nat.not_lt_zero _)
    have hdl := tA_dl hcp hr
    rw [wX_takeOff_47]
    dsimp only
    rw [ix_7, nI_clamp (n := 7 * l + r) (by omega), a1, ix_m1 (by omega), ix_nb _ (by omega)]
    refine br_t (nI_le (a := 7) (by omega) (by omega)) ⟨vp_in_nI (by omega) (by decide), vp_in_nI (by omega) (by decide), nm_e ?_⟩
    rw [pk_us, ix_49, nI_clamp (n := 49 * (l + 1) + 7 * r + ((T.getD r []).length - 1)) (by omega), b2 _ (by omega), ls_last_get hne]
    refine ⟨vp_in_nI (by omega) (by decide), vp_in_nI (by omega) (by decide), nm_e (nm_e ⟨8, ?_⟩)⟩
    have hcut := ls_rcut (T := T) (r := r) (by omega)
    have hun : tb_un (T.drop r) (r - r) = ((T.getD r []).dropLast :: T.drop (r + 1), (T.getD r []).getLastD 0) := by
      rw [Nat.sub_self, hcut, tb_un_0]
    have key := xw_133 (post := post) (f := f) (cn := cn) (wo := wo) (en := en) (le := le) (ll := upd ll (7 * l + r) (nI ((T.getD r []).length - 1))) (tr := tr) (ca := ca) (co := co) hl hr h7 hV hc h8 (fun q hq' => (hT.2 q hq').2.2) r 8 lf (Nat.le_refl _) (by omega) (by rw [hun, ← ls_rset _ (by omega)]; exact hdl) (fun lf' g1 g2 => hp lf' _ g1 g2 (fun k hk' => pk_un (by omega)))
    rw [hun] at key
    exact key
  | succ d ih =>
    intro k n ll hk hn hT hq hp
    obtain ⟨m, rfl⟩ : ∃ m, n = m + 1 := ⟨n - 1, by omega⟩
    rw [wX_takeOff_47]
    dsimp only
    rw [ix_7 (l + 1) k, ix_7 l k, nI_clamp (n := 7 * (l + 1) + k) (by omega), nI_clamp (n := 7 * l + k) (by omega)]
    refine br_f (nI_ge (b := 7) (by omega) (by decide)) ⟨vp_in_nI (by omega) (by decide), vp_in_nI (by omega) (by decide), nm_e (nm_r (nI_1 k) (ih (k + 1) m _ (by omega) (by omega) ?_ (fun q hq' => ?_) (fun lf' ll' g1 g2 g3 => hp lf' ll' g1 g2 (fun k' hk' => by rw [g3 k' hk', pk_un (by omega)]))))⟩
    · exact tA_other (tA_fr_l (j := l) (by omega)) (by omega) hT
    · rw [pk_un (j := 7 * (l + 1) + q) (by omega)]
      by_cases c : q = k
      · rw [c, pk_us]
      · rw [pk_un (by omega)]; exact hq q (by omega)
theorem xw_7 {post : SX → Prop} {l r : Nat} {T : List (List Nat)} (hl : l < 7) (hr : r < 7) (h7 : T.length = 7) (hV : tb_V T) (hc : sh_cor (tb_sh T) r = true) (h8 : tb_8 T) :
    ∀ (d k n : Nat) (lf : Nat → Int32), k + d = 49 → d < n → tA_H lf ll (l + 1) T → (∀ q, q < k → lf (49 * l + q) = vp_nar .byte (lf (49 * (l + 1) + q))) →
    (∀ lf' ll', tA_H lf' ll' l (tb_un T r).1 → (∀ k, 49 * (l + 1) ≤ k → lf' k = lf k) → (∀ k, 7 * (l + 1) ≤ k → ll' k = ll k) → post (f, cn, wo, en, le, lf', ll', upd tr l (nI 0), upd ca l (nI (tb_un T r).2), co)) →
    wX_takeOff_7 post (nI (l + 1)) (nI r) (nI l) f n (nI k) cn wo en le lf ll tr ca co := by
  intro d
  induction d with
  | zero =>
    intro k n lf hk hn hT hq hp
    obtain ⟨m, rfl⟩ : ∃ m, n = m + 1 := ⟨n - 1, by omega⟩
    rw [wX_takeOff_7]
    exact br_t (nI_le (a := 49) (by omega) (by omega)) ⟨8, xw_47 hl hr h7 hV hc h8 (fun q hq' => hq q (by omega)) 7 0 8 ll rfl (by omega) hT (fun q h => absurd h (Nat.not_lt_zero q)) hp⟩
  | succ d ih =>
    intro k n lf hk hn hT hq hp
    obtain ⟨m, rfl⟩ : ∃ m, n = m + 1 := ⟨n - 1, by omega⟩
    rw [wX_takeOff_7]
    dsimp only
    rw [ix_490, ix_490, nI_clamp (n := 49 * (l + 1) + k) (by omega), nI_clamp (n := 49 * l + k) (by omega)]
    refine br_f (nI_ge (b := 49) (by omega) (by decide)) ⟨vp_in_nI (by omega) (by decide), vp_in_nI (by omega) (by decide), nm_e (nm_r (nI_1 k) (ih (k + 1) m _ (by omega) (by omega) ?_ (fun q hq' => ?_) (fun lf' ll' g1 g2 g3 => hp lf' ll' g1 (fun k' hk' => by rw [g2 k' hk', pk_un (by omega)]) g3)))⟩
    · exact tA_other (tA_fr_e (j := l) (by omega)) (by omega) hT
    · rw [pk_un (j := 49 * (l + 1) + q) (by omega)]
      by_cases c : q = k
      · rw [c, pk_us]
      · rw [pk_un (by omega)]; exact hq q (by omega)
theorem xw_wp {post : SX → Prop} {l r : Nat} {T : List (List Nat)} (hl : l < 7) (hr : r < 7) (hT : tA_H lf ll (l + 1) T) (hV : tb_V T) (hc : sh_cor (tb_sh T) r = true) (h8 : tb_8 T)
    (hp : ∀ lf' ll', tA_H lf' ll' l (tb_un T r).1 → (∀ k, 49 * (l + 1) ≤ k → lf' k = lf k) → (∀ k, 7 * (l + 1) ≤ k → ll' k = ll k) → post (f, cn, wo, en, le, lf', ll', upd tr l (nI 0), upd ca l (nI (tb_un T r).2), co)) :
    wpX_takeOff post (f, cn, wo, en, le, lf, ll, tr, ca, co) (nI (l + 1)) (nI r) := by
  unfold wpX_takeOff
  dsimp only
  rw [nI_pred]
  exact nm_e ⟨50, xw_7 hl hr hT.1 hV hc h8 49 0 50 lf rfl (by omega) hT (fun q h => absurd h (Nat.not_lt_zero q)) hp⟩
end
end
section
/-! the component: all kin, level by level -/
theorem ls_ins_get {L : List Nat} {t : Nat} (c q : Nat) (ht : t ≤ L.length) : (L.take t ++ c :: L.drop t).getD q 0 = if q < t then L.getD q 0 else if q = t then c else L.getD (q - 1) 0 := by
  have el : (L.take t).length = t := by rw [List.length_take]; omega
  by_cases h : q < t
  · rw [if_pos h, ls_getD_lo (by omega), ls_getD_take h]
  · rw [if_neg h]
    obtain ⟨k, rfl⟩ : ∃ k, q = (L.take t).length + k := ⟨q - t, by omega⟩
    rw [ls_getD_app]
    cases k with
    | zero => rw [if_pos (by omega)]; rfl
    | succ k =>
      rw [if_neg (by omega)]
      show (L.drop t).getD k 0 = _
      rw [List.getD_eq_getElem?_getD, List.getD_eq_getElem?_getD, List.getElem?_drop]
      congr 2
      omega
theorem ls_ins_len {L : List Nat} {t : Nat} (c : Nat) (ht : t ≤ L.length) : (L.take t ++ c :: L.drop t).length = L.length + 1 := by
  rw [List.length_append, List.length_take, List.length_cons, List.length_drop]; omega
theorem so_insert {L : List Nat} {t c : Nat} (hs : so_S L) (ht : t ≤ L.length) (h1 : ∀ q, q < t → L.getD q 0 ≤ c) (h2 : ∀ q, t ≤ q → q < L.length → c < L.getD q 0) : so_S (L.take t ++ c :: L.drop t) ∧ (L.take t ++ c :: L.drop t).Perm (L ++ [c]) := by
  have m1 : ∀ x, x ∈ L.take t → x ≤ c := by
    intro x hx
    obtain ⟨q, hq, e⟩ := List.mem_iff_getElem.mp hx
    have hq' : q < t := by rw [List.length_take] at hq; omega
    have := h1 q hq'
    rw [← ls_getD_take hq', List.getD_eq_getElem?_getD, List.getElem?_eq_getElem hq] at this
    rw [← e]; exact this
  have m2 : ∀ x, x ∈ L.drop t → c ≤ x := by
    intro x hx
    obtain ⟨q, hq, e⟩ := List.mem_iff_getElem.mp hx
    have hq' : t + q < L.length := by rw [List.length_drop] at hq; omega
    have := h2 (t + q) (by omega) hq'
    rw [List.getElem_drop] at e
    rw [List.getD_eq_getElem?_getD, List.getElem?_eq_getElem hq'] at this
    have this' : c < L[t + q] := this
    omega
  have hs' : so_S (L.take t ++ L.drop t) := by rw [List.take_append_drop]; exact hs
  obtain ⟨a1, a2, _⟩ := List.pairwise_append.mp hs'
  constructor
  · refine List.pairwise_append.mpr ⟨a1, List.pairwise_cons.mpr ⟨m2, a2⟩, fun x hx y hy => ?_⟩
    have := m1 x hx
    rcases List.mem_cons.mp hy with e | e
    · omega
    · have := m2 y e; omega
  · refine List.perm_middle.trans ?_
    rw [List.take_append_drop]
    exact (List.perm_append_singleton c L).symm
section
variable {f : Int32} {cn wo en le lf ll tr ca co : Nat → Int32}
theorem xo_68 {post : SX → Prop} {L : List Nat} {c t : Nat} (hL : L.length < 64) (ht : t ≤ L.length) (hs : so_S L) (g1 : ∀ q, q < t → co q = nI (L.getD q 0)) (g2 : ∀ q, t ≤ q → q < L.length → co (q + 1) = nI (L.getD q 0)) (h1 : ∀ q, q < t → L.getD q 0 ≤ c) (h2 : ∀ q, t ≤ q → q < L.length → c < L.getD q 0)
    (hp : ∀ co' L', so_S L' → L'.Perm (L ++ [c]) → ar_H co' 0 L' → post (nI (L.length + 1), cn, wo, en, le, lf, ll, tr, ca, co')) : wX_keepCode_68 post (nI c) (nI t) (nI L.length) cn wo en le lf ll tr ca co := by
  rw [wX_keepCode_68, nI_clamp (by omega)]
  obtain ⟨a, b⟩ := so_insert hs ht h1 h2
  refine ⟨vp_in_nI (by omega) (by decide), nm_e (nm_r (nI_1 _) (hp _ _ a b (fun q hq => ?_)))⟩
  rw [ls_ins_len c ht] at hq
  rw [ls_ins_get c q ht, Nat.zero_add]
  by_cases h : q < t
  · rw [if_pos h, pk_un (by omega)]; exact g1 q h
  · rw [if_neg h]
    by_cases e : q = t
    · rw [if_pos e, e, pk_us]
    · rw [if_neg e, pk_un e]
      have := g2 (q - 1) (by omega) (by omega)
      rw [show q - 1 + 1 = q by omega] at this
      exact this
theorem xo_32 {post : SX → Prop} {L : List Nat} {c : Nat} (hL : L.length < 64) (hc : c < 2097152) (hb : ∀ y, y ∈ L → y < 2097152) (hs : so_S L)
    (hp : ∀ co' L', so_S L' → L'.Perm (L ++ [c]) → ar_H co' 0 L' → post (nI (L.length + 1), cn, wo, en, le, lf, ll, tr, ca, co')) :
    ∀ (t n : Nat) (co : Nat → Int32), t ≤ L.length → t < n → (∀ q, q < t → co q = nI (L.getD q 0)) → (∀ q, t ≤ q → q < L.length → co (q + 1) = nI (L.getD q 0)) → (∀ q, t ≤ q → q < L.length → c < L.getD q 0) →
    wX_keepCode_32 post (nI c) (nI L.length) n (nI t) cn wo en le lf ll tr ca co := by
  intro t
  induction t with
  | zero =>
    intro n co ht hn g1 g2 h2
    obtain ⟨m, rfl⟩ : ∃ m, n = m + 1 := ⟨n - 1, by omega⟩
    rw [wX_keepCode_32]
    exact br_t (nI_le (b := 0) (by omega) (by omega)) (xo_68 hL ht hs g1 g2 (fun q h => absurd h (Nat.not_lt_zero q)) h2 hp)
  | succ t ih =>
    intro n co ht hn g1 g2 h2
    obtain ⟨m, rfl⟩ : ∃ m, n = m + 1 := ⟨n - 1, by omega⟩
    have htl : t < L.length := by omega
    have hbt := hb _ (ls_getD_mem htl)
    rw [wX_keepCode_32]
    dsimp only
    rw [nI_pred, nI_clamp (n := t) (by omega), nI_clamp (n := t + 1) (by omega), g1 t (by omega)]
    refine br_f (nI_nle (by omega) (by omega)) ⟨vp_in_nI (by omega) (by decide), pk_le (L.getD t 0) c (fun g => ?_) (fun g => ⟨vp_in_nI (by omega) (by decide), vp_in_nI (by omega) (by decide), nm_e (nm_r (pk_m1 t) (ih m _ (by omega) (by omega) (fun q hq => ?_) (fun q a b => ?_) (fun q a b => ?_)))⟩)⟩
    · refine xo_68 hL ht hs g1 g2 (fun q hq => ?_) h2 hp
      by_cases e : q = t
      · rw [e]; exact g
      · have hql : q < L.length := by omega
        have := List.pairwise_iff_getElem.mp hs q t hql htl (by omega)
        have e1 : L.getD q 0 = L[q] := by rw [List.getD_eq_getElem?_getD, List.getElem?_eq_getElem hql]; rfl
        have e2 : L.getD t 0 = L[t] := by rw [List.getD_eq_getElem?_getD, List.getElem?_eq_getElem htl]; rfl
        omega
    · rw [pk_un (by omega)]; exact g1 q (by omega)
    · by_cases e : q = t
      · rw [e, pk_us]
      · rw [pk_un (by omega)]; exact g2 q (by omega) b
    · by_cases e : q = t
      · rw [e]; exact g
      · exact h2 q (by omega) b
theorem xo_4 {post : SX → Prop} {L v : List Nat} (hL : L.length < 64) (hv : v.length ≤ 7) (hv8 : ∀ x, x ∈ v → x < 8) (hb : ∀ y, y ∈ L → y < 2097152) (hs : so_S L) (hca : ar_H ca 0 v) (hco : ar_H co 0 L)
    (hp : ∀ co' L', so_S L' → L'.Perm (L ++ [wd_cd v]) → ar_H co' 0 L' → post (nI (L.length + 1), cn, wo, en, le, lf, ll, tr, ca, co')) :
    ∀ (d i n : Nat), i + d = v.length → d < n → wX_keepCode_4 post (nI v.length) (nI L.length) cn wo en le lf ll tr ca co n (nI (wd_cd (v.take i))) (nI i) := by
  intro d
  induction d with
  | zero =>
    intro i n hi hn
    obtain ⟨m, rfl⟩ : ∃ m, n = m + 1 := ⟨n - 1, by omega⟩
    have e : i = v.length := by omega
    have hlt : wd_cd v < 2097152 := by
      have h1 := wd_lt v hv8
      have h2 : 8 ^ v.length ≤ 8 ^ 7 := Nat.pow_le_pow_right (by decide) hv
      have h3 : (8 : Nat) ^ 7 = 2097152 := by decide
      omega
    rw [wX_keepCode_4, e, List.take_length]
    refine br_t (nI_le (Nat.le_refl _) (by omega)) ⟨65, xo_32 hL hlt hb hs hp L.length 65 co (Nat.le_refl _) (by omega) (fun q hq => ar_0 hco hq) (fun q a b => by omega) (fun q a b => by omega)⟩
  | succ d ih =>
    intro i n hi hn
    obtain ⟨m, rfl⟩ : ∃ m, n = m + 1 := ⟨n - 1, by omega⟩
    rw [wX_keepCode_4]
    dsimp only
    rw [nI_clamp (by omega), ar_0 hca (by omega), ix_78, wd_take_succ (by omega)]
    exact br_f (nI_ge (by omega) (by omega)) ⟨vp_in_nI (by omega) (by decide), nm_e (nm_r (nI_1 i) (ih (i + 1) m (by omega) (by omega)))⟩
theorem xo_wp {post : SX → Prop} {L v : List Nat} (hL : L.length < 64) (hv : v.length ≤ 7) (hv8 : ∀ x, x ∈ v → x < 8) (hb : ∀ y, y ∈ L → y < 2097152) (hs : so_S L) (hca : ar_H ca 0 v) (hco : ar_H co 0 L)
    (hp : ∀ co' L', so_S L' → L'.Perm (L ++ [wd_cd v]) → ar_H co' 0 L' → post (nI (L.length + 1), cn, wo, en, le, lf, ll, tr, ca, co')) :
    wpX_keepCode post (nI L.length, cn, wo, en, le, lf, ll, tr, ca, co) (nI v.length) :=
  ⟨8, xo_4 hL hv hv8 hb hs hca hco hp v.length 0 8 (by omega) (by omega)⟩
end
/-- what a level leaves alone -/
def lk_fr (l : Nat) (lf ll tr ca lf' ll' tr' ca' : Nat → Int32) : Prop := (∀ q, 49 * l ≤ q → lf' q = lf q) ∧ (∀ q, 7 * l ≤ q → ll' q = ll q) ∧ (∀ q, l < q → tr' q = tr q) ∧ (∀ q, l ≤ q → ca' q = ca q)
def lk_c (n : Nat) (la : List Nat) : List Nat → Nat
  | [] => 1
  | r :: rs => 1 + (if sh_cor la r = true then sh_g n (sh_dec la r) else 0) + lk_c n la rs
theorem lk_c_sum (n : Nat) (la : List Nat) : ∀ rs : List Nat, lk_c n la rs = rs.length + 1 + (rs.map (fun r => if sh_cor la r = true then sh_g n (sh_dec la r) else 0)).sum := by
  intro rs
  induction rs with
  | nil => rfl
  | cons r rs ih => rw [lk_c, ih, List.length_cons, List.map_cons, List.sum_cons]; omega
theorem lk_c_g (n : Nat) (la : List Nat) : lk_c n la (List.range' 0 7) = sh_g (n + 1) la := by
  rw [lk_c_sum, sh_g, List.length_range']
theorem lk_pos (n : Nat) (la : List Nat) (rs : List Nat) : 1 ≤ lk_c n la rs := by rw [lk_c_sum]; omega
def lk_w (n : Nat) (T : List (List Nat)) (v : List Nat) (rs : List Nat) : List Nat := (rs.flatMap (tb_E1 (tb_E n) T)).map (fun w => wd_cd (w ++ v))
theorem lk_w_cons (n : Nat) (T : List (List Nat)) (v : List Nat) (r : Nat) (rs : List Nat) : lk_w n T v (r :: rs) = (tb_E1 (tb_E n) T r).map (fun w => wd_cd (w ++ v)) ++ lk_w n T v rs := by
  rw [lk_w, List.flatMap_cons, List.map_append]; rfl
theorem lk_w_1 {n : Nat} {T : List (List Nat)} {r : Nat} (v : List Nat) (h : sh_cor (tb_sh T) r = true) : (tb_E1 (tb_E n) T r).map (fun w => wd_cd (w ++ v)) = (tb_E n (tb_un T r).1).map (fun w => wd_cd (w ++ ((tb_un T r).2 :: v))) := by
  rw [tb_E1, if_pos h, List.map_map]
  apply List.map_congr_left
  intro w _
  show wd_cd ((w ++ [(tb_un T r).2]) ++ v) = _
  rw [List.append_assoc]; rfl
section
variable {cn wo en le : Nat → Int32}
/-- the walk from a level's row t on, given the level below -/
theorem xe_rows {post : SX → Prop} {N l : Nat} {T : List (List Nat)} {v : List Nat} (hN : N ≤ 7) (hl : l + 1 ≤ N) (hV : tb_V T) (h8 : tb_8 T)
    (ih : ∀ (r : Nat), sh_cor (tb_sh T) r = true → ∀ (L : List Nat) (s n : Nat) (lf ll tr ca co : Nat → Int32), tA_H lf ll l (tb_un T r).1 → ar_H ca l ((tb_un T r).2 :: v) → tr l = nI 0 → so_S L → (∀ y, y ∈ L → y < 2097152) → ar_H co 0 L →
      L.length + (tb_E l (tb_un T r).1).length ≤ 64 → s + sh_g l (tb_sh (tb_un T r).1) ≤ 99999 →
      (∀ (L' : List Nat) (lf' ll' tr' ca' co' : Nat → Int32), so_S L' → L'.Perm (L ++ (tb_E l (tb_un T r).1).map (fun w => wd_cd (w ++ ((tb_un T r).2 :: v)))) → (∀ y, y ∈ L' → y < 2097152) → ar_H co' 0 L' → lk_fr l lf ll tr ca lf' ll' tr' ca' →
        wX_listKin_17 post (nI N) n (nI (l + 1)) (nI (s + sh_g l (tb_sh (tb_un T r).1))) (nI L'.length) cn wo en le lf' ll' tr' ca' co') →
      wX_listKin_17 post (nI N) (n + sh_g l (tb_sh (tb_un T r).1)) (nI l) (nI s) (nI L.length) cn wo en le lf ll tr ca co) :
    ∀ (d t : Nat), t + d = 7 → ∀ (L : List Nat) (s n : Nat) (lf ll tr ca co : Nat → Int32), tA_H lf ll (l + 1) T → ar_H ca (l + 1) v → tr (l + 1) = nI t → so_S L → (∀ y, y ∈ L → y < 2097152) → ar_H co 0 L →
      L.length + (lk_w l T v (List.range' t d)).length ≤ 64 → s + lk_c l (tb_sh T) (List.range' t d) ≤ 99999 →
      (∀ (L' : List Nat) (lf' ll' tr' ca' co' : Nat → Int32), so_S L' → L'.Perm (L ++ lk_w l T v (List.range' t d)) → (∀ y, y ∈ L' → y < 2097152) → ar_H co' 0 L' → lk_fr (l + 1) lf ll tr ca lf' ll' tr' ca' →
        wX_listKin_17 post (nI N) n (nI (l + 1 + 1)) (nI (s + lk_c l (tb_sh T) (List.range' t d))) (nI L'.length) cn wo en le lf' ll' tr' ca' co') →
      wX_listKin_17 post (nI N) (n + lk_c l (tb_sh T) (List.range' t d)) (nI (l + 1)) (nI s) (nI L.length) cn wo en le lf ll tr ca co := by
  intro d
  induction d with
  | zero =>
    intro t ht L s n lf ll tr ca co hT hca htr hs hb hco h64 hst hK
    have e7 : t = 7 := by omega
    rw [e7] at htr
    show wX_listKin_17 post (nI N) (n + 1) (nI (l + 1)) (nI s) (nI L.length) cn wo en le lf ll tr ca co
    have hst' : s + 1 ≤ 99999 := hst
    rw [wX_listKin_17]
    dsimp only
    rw [nI_clamp (n := l + 1) (by omega), htr]
    refine br_f (nI_ge (b := 100000) (by omega) (by decide)) (br_f (nI_nlt hl (by omega)) (br_f (nI_ne0 (by omega) (by omega)) ⟨vp_in_nI (by omega) (by decide), br_t rfl (nm_r (nI_1 _) (nm_r (nI_1 s) ?_))⟩))
    refine hK L lf ll tr ca co hs ?_ hb hco ⟨fun _ _ => rfl, fun _ _ => rfl, fun _ _ => rfl, fun _ _ => rfl⟩
    show L.Perm (L ++ [])
    rw [List.append_nil]
  | succ d ihd =>
    intro t ht L s n lf ll tr ca co hT hca htr hs hb hco h64 hst hK
    rw [List.range'_succ] at h64 hst hK ⊢
    rw [lk_w_cons, List.length_append] at h64
    rw [lk_c] at hst
    have hpos := lk_pos l (tb_sh T) (List.range' (t + 1) d)
    have ht7 : t < 7 := by omega
    have efuel : n + lk_c l (tb_sh T) (t :: List.range' (t + 1) d) = ((n + lk_c l (tb_sh T) (List.range' (t + 1) d)) + (if sh_cor (tb_sh T) t = true then sh_g l (sh_dec (tb_sh T) t) else 0)) + 1 := by
      rw [lk_c]; omega
    rw [efuel, wX_listKin_17]
    dsimp only
    rw [nI_clamp (n := l + 1) (by omega), htr, nI_1 t, ix_nb _ (by omega)]
    refine br_f (nI_ge (b := 100000) (by omega) (by decide)) (br_f (nI_nlt hl (by omega)) (br_f (nI_ne0 (by omega) (by omega)) ⟨vp_in_nI (by omega) (by decide), br_f (fun z => by have := (nI_eq (b := 7) (by omega) (by decide)).mp z; omega) ⟨vp_in_nI (by omega) (by decide), nm_e ⟨vp_in_nI (by omega) (by decide), vp_in_nI (by omega) (by decide), nm_e ?_⟩⟩⟩))
    refine xq_wp (by omega) ht7 hT (fun hc => ?_) (fun hc => ?_)
    · refine br_f (by decide) (xw_wp (by omega) ht7 hT hV hc h8 (fun lf' ll' g1 g2 g3 => ?_))
      dsimp only
      rw [if_pos hc] at hst ⊢
      have esh := tb_un_sh T t
      have e1 := lk_w_1 (n := l) v hc
      rw [e1] at h64
      rw [List.length_map] at h64
      rw [← esh] at hst ⊢
      refine nm_r (pk_m1 l) (nm_r (nI_1 s) ?_)
      refine ih t hc L (s + 1) (n + lk_c l (tb_sh T) (List.range' (t + 1) d)) lf' ll' _ _ co g1 ?_ pk_us hs hb hco (by omega) (by omega) (fun L' lf2 ll2 tr2 ca2 co2 k1 k2 k3 k4 k5 => ?_)
      · intro i hi
        cases i with
        | zero => rw [Nat.add_zero, pk_us]; rfl
        | succ i =>
          rw [pk_un (by omega)]
          have := hca i (Nat.lt_of_succ_lt_succ hi)
          rw [show l + (i + 1) = l + 1 + i by omega, this]; rfl
      · obtain ⟨f1, f2, f3, f4⟩ := k5
        have hlen := k2.length_eq
        rw [List.length_append, List.length_map] at hlen
        have estep : ∀ (r : Nat), s + 1 + sh_g l (tb_sh (tb_un T t).1) + r = s + (1 + (if sh_cor (tb_sh T) t = true then sh_g l (sh_dec (tb_sh T) t) else 0) + r) := by
          intro r; rw [if_pos hc, ← esh]; omega
        refine ihd (t + 1) (by omega) L' _ n lf2 ll2 tr2 ca2 co2 ?_ ?_ ?_ k1 k3 k4 (by omega) (by omega) (fun L2 lf3 ll3 tr3 ca3 co3 m1 m2 m3 m4 m5 => ?_)
        · refine ⟨hT.1, fun r hr => ?_⟩
          obtain ⟨a1, a2, a3⟩ := hT.2 r hr
          exact ⟨by rw [f2 _ (by omega), g3 _ (by omega)]; exact a1, ar_cong a2 (fun i hi => by rw [f1 _ (by omega), g2 _ (by omega)]), a3⟩
        · exact ar_cong hca (fun i hi => by rw [f4 _ (by omega), pk_un (by omega)])
        · rw [f3 _ (by omega), pk_un (by omega), pk_us]
        · have hKK := hK L2 lf3 ll3 tr3 ca3 co3 m1 ?_ m3 m4 ?_
          · rw [lk_c, ← estep] at hKK
            exact hKK
          · refine m2.trans ?_
            rw [lk_w_cons, e1, ← List.append_assoc]
            exact List.Perm.append_right _ k2
          · obtain ⟨p1, p2, p3, p4⟩ := m5
            exact ⟨fun q hq => by rw [p1 q hq, f1 q (by omega), g2 q hq], fun q hq => by rw [p2 q hq, f2 q (by omega), g3 q hq], fun q hq => by rw [p3 q hq, f3 q (by omega), pk_un (by omega), pk_un (by omega)], fun q hq => by rw [p4 q hq, f4 q (by omega), pk_un (by omega)]⟩
    · rw [if_neg hc] at hst ⊢
      have e1 : tb_E1 (tb_E l) T t = [] := by rw [tb_E1, if_neg hc]
      refine br_t rfl (nm_r (nI_1 s) ?_)
      rw [Nat.add_zero]
      refine ihd (t + 1) (by omega) L (s + 1) n lf ll _ ca co hT hca pk_us hs hb hco (by omega) (by omega) (fun L2 lf3 ll3 tr3 ca3 co3 m1 m2 m3 m4 m5 => ?_)
      have hKK := hK L2 lf3 ll3 tr3 ca3 co3 m1 ?_ m3 m4 ?_
      · rw [lk_c, if_neg hc, Nat.add_zero, ← Nat.add_assoc] at hKK
        exact hKK
      · rw [lk_w_cons, e1]
        exact m2
      · obtain ⟨p1, p2, p3, p4⟩ := m5
        exact ⟨p1, p2, fun q hq => by rw [p3 q hq, pk_un (by omega)], p4⟩
theorem xe_node {post : SX → Prop} {N : Nat} (hN : N ≤ 7) : ∀ (l : Nat), l ≤ N → ∀ (T : List (List Nat)) (v : List Nat), tb_V T → tb_8 T → v.length + l = N → (∀ x, x ∈ v → x < 8) →
    ∀ (L : List Nat) (s n : Nat) (lf ll tr ca co : Nat → Int32), tA_H lf ll l T → ar_H ca l v → tr l = nI 0 → so_S L → (∀ y, y ∈ L → y < 2097152) → ar_H co 0 L →
      L.length + (tb_E l T).length ≤ 64 → s + sh_g l (tb_sh T) ≤ 99999 →
      (∀ (L' : List Nat) (lf' ll' tr' ca' co' : Nat → Int32), so_S L' → L'.Perm (L ++ (tb_E l T).map (fun w => wd_cd (w ++ v))) → (∀ y, y ∈ L' → y < 2097152) → ar_H co' 0 L' → lk_fr l lf ll tr ca lf' ll' tr' ca' →
        wX_listKin_17 post (nI N) n (nI (l + 1)) (nI (s + sh_g l (tb_sh T))) (nI L'.length) cn wo en le lf' ll' tr' ca' co') →
      wX_listKin_17 post (nI N) (n + sh_g l (tb_sh T)) (nI l) (nI s) (nI L.length) cn wo en le lf ll tr ca co := by
  intro l
  induction l with
  | zero =>
    intro _ T v hV h8 hvl hv8 L s n lf ll tr ca co hT hca htr hs hb hco h64 hst hK
    have h64' : L.length + 1 ≤ 64 := h64
    have hst' : s + 1 ≤ 99999 := hst
    have hvN : v.length = N := hvl
    show wX_listKin_17 post (nI N) (n + 1) (nI 0) (nI s) (nI L.length) cn wo en le lf ll tr ca co
    rw [wX_listKin_17]
    refine br_f (nI_ge (b := 100000) (by omega) (by decide)) (br_f (nI_nlt (Nat.zero_le _) (by omega)) (br_t rfl (br_f (nI_ge (b := 64) (by omega) (by decide)) ?_)))
    rw [← hvN]
    refine xo_wp (by omega) (by omega) hv8 hb hs hca hco (fun co' L' k1 k2 k3 => ?_)
    have hlen := k2.length_eq
    rw [List.length_append] at hlen
    have hlen' : L'.length = L.length + 1 := hlen
    rw [← hlen']
    refine nm_r (nI_1 0) (nm_r (nI_1 s) ?_)
    have hlt : wd_cd v < 2097152 := by
      have h1 := wd_lt v hv8
      have h2 : 8 ^ v.length ≤ 8 ^ 7 := Nat.pow_le_pow_right (by decide) (by omega)
      have h3 : (8 : Nat) ^ 7 = 2097152 := by decide
      omega
    have hKK := hK L' lf ll tr ca co' k1 k2 (fun y hy => ?_) k3 ⟨fun _ _ => rfl, fun _ _ => rfl, fun _ _ => rfl, fun _ _ => rfl⟩
    · rw [hvN]; exact hKK
    · rcases List.mem_append.mp (k2.mem_iff.mp hy) with e | e
      · exact hb y e
      · rw [List.mem_singleton.mp e]; exact hlt
  | succ l ih =>
    intro hlN T v hV h8 hvl hv8 L s n lf ll tr ca co hT hca htr hs hb hco h64 hst hK
    rw [← lk_c_g] at hst hK ⊢
    have ew : (tb_E (l + 1) T).map (fun w => wd_cd (w ++ v)) = lk_w l T v (List.range' 0 7) := rfl
    have el : (tb_E (l + 1) T).length = (lk_w l T v (List.range' 0 7)).length := by rw [← ew, List.length_map]
    rw [el] at h64
    rw [ew] at hK
    refine xe_rows hN hlN hV h8 (fun r hc L s n lf ll tr ca co a1 a2 a3 a4 a5 a6 a7 a8 a9 => ?_) 7 0 rfl L s n lf ll tr ca co hT hca htr hs hb hco h64 hst hK
    exact ih (by omega) (tb_un T r).1 ((tb_un T r).2 :: v) (tb_put_un T r hV hc).1 (tb_un_8 T r hV hc h8) (by rw [List.length_cons]; omega) (fun x hx => by
      rcases List.mem_cons.mp hx with e | e
      · rw [e]; exact tb_un_lt8 hV hc h8
      · exact hv8 x e) L s n lf ll tr ca co a1 a2 a3 a4 a5 a6 a7 a8 a9
end
end
section
/-! kinAt -/
section
variable {f : Int32} {cn wo en le lf ll tr ca co : Nat → Int32}
theorem xt_45 {post : SX → Prop} {j N : Nat} {T : List (List Nat)} (hj : j < 2) (hN : N ≤ 7) (h8 : tb_8 T) (hT : tA_H en le j T) (hlf : ∀ q, q < 49 → lf (49 * N + q) = vp_nar .byte (en (49 * j + q)))
    (hp : ∀ ll', tA_H lf ll' N T → post (nI 0, cn, wo, en, le, lf, ll', upd tr N (nI 0), ca, co)) :
    ∀ (d k n : Nat) (ll : Nat → Int32), k + d = 7 → d < n → (∀ q, q < k → ll (7 * N + q) = vp_nar .byte (le (7 * j + q))) → wX_startLevels_45 post (nI j) (nI N) f n (nI k) cn wo en le lf ll tr ca co := by
  intro d
  induction d with
  | zero =>
    intro k n ll hk hn hq
    obtain ⟨m, rfl⟩ : ∃ m, n = m + 1 := ⟨n - 1, by omega⟩
    rw [wX_startLevels_45]
    dsimp only
    rw [nI_clamp (n := N) (by omega), ix_n0]
    exact br_t (nI_le (a := 7) (by omega) (by omega)) ⟨vp_in_nI (by omega) (by decide), nm_e (hp ll (tA_copy h8 hT hlf (fun q hq' => hq q (by omega))))⟩
  | succ d ih =>
    intro k n ll hk hn hq
    obtain ⟨m, rfl⟩ : ∃ m, n = m + 1 := ⟨n - 1, by omega⟩
    rw [wX_startLevels_45]
    dsimp only
    rw [ix_7 j k, ix_7 N k, nI_clamp (n := 7 * j + k) (by omega), nI_clamp (n := 7 * N + k) (by omega)]
    refine br_f (nI_ge (b := 7) (by omega) (by decide)) ⟨vp_in_nI (by omega) (by decide), vp_in_nI (by omega) (by decide), nm_e (nm_r (nI_1 k) (ih (k + 1) m _ (by omega) (by omega) (fun q hq' => ?_)))⟩
    by_cases c : q = k
    · rw [c, pk_us]
    · rw [pk_un (by omega)]; exact hq q (by omega)
theorem xt_9 {post : SX → Prop} {j N : Nat} {T : List (List Nat)} (hj : j < 2) (hN : N ≤ 7) (h8 : tb_8 T) (hT : tA_H en le j T)
    (hp : ∀ lf' ll', tA_H lf' ll' N T → post (nI 0, cn, wo, en, le, lf', ll', upd tr N (nI 0), ca, co)) :
    ∀ (d k n : Nat) (lf : Nat → Int32), k + d = 49 → d < n → (∀ q, q < k → lf (49 * N + q) = vp_nar .byte (en (49 * j + q))) → wX_startLevels_9 post (nI j) (nI N) f n (nI k) cn wo en le lf ll tr ca co := by
  intro d
  induction d with
  | zero =>
    intro k n lf hk hn hq
    obtain ⟨m, rfl⟩ : ∃ m, n = m + 1 := ⟨n - 1, by omega⟩
    rw [wX_startLevels_9]
    exact br_t (nI_le (a := 49) (by omega) (by omega)) ⟨8, xt_45 hj hN h8 hT (fun q hq' => hq q (by omega)) (fun ll' h => hp lf ll' h) 7 0 8 ll rfl (by omega) (fun q h => absurd h (Nat.not_lt_zero q))⟩
  | succ d ih =>
    intro k n lf hk hn hq
    obtain ⟨m, rfl⟩ : ∃ m, n = m + 1 := ⟨n - 1, by omega⟩
    rw [wX_startLevels_9]
    dsimp only
    rw [ix_490 j k, ix_490 N k, nI_clamp (n := 49 * j + k) (by omega), nI_clamp (n := 49 * N + k) (by omega)]
    refine br_f (nI_ge (b := 49) (by omega) (by decide)) ⟨vp_in_nI (by omega) (by decide), vp_in_nI (by omega) (by decide), nm_e (nm_r (nI_1 k) (ih (k + 1) m _ (by omega) (by omega) (fun q hq' => ?_)))⟩
    by_cases c : q = k
    · rw [c, pk_us]
    · rw [pk_un (by omega)]; exact hq q (by omega)
/-- all kin, sorted by their codes -/
theorem xt_wp {post : SX → Prop} {j : Nat} {w : List Nat} (hj : j < 2) (hw : w.length ≤ 7) (ho : wd_ok w) (hcn : cn j = nI w.length) (hT : tA_H en le j (tb_W w))
    (hp : ∀ (L : List Nat) (lf' ll' tr' ca' co' : Nat → Int32), so_S L → L.Perm ((wd_E w).map wd_cd) → (∀ y, y ∈ L → y < 2097152) → ar_H co' 0 L → post (nI L.length, cn, wo, en, le, lf', ll', tr', ca', co')) :
    wpX_listKin post (f, cn, wo, en, le, lf, ll, tr, ca, co) (nI j) := by
  have h8 := tb_W_8 hw ho
  obtain ⟨f1, f2, _⟩ := sh_facts (wd_sh hw)
  rw [wd_sum hw] at f1 f2
  unfold wpX_listKin
  dsimp only
  rw [nI_clamp (n := j) (by omega), hcn]
  refine ⟨vp_in_nI hj (by decide), nm_e ?_⟩
  unfold wpX_startLevels
  dsimp only
  rw [nI_clamp (n := j) (by omega), hcn]
  refine ⟨vp_in_nI hj (by decide), nm_e ⟨50, xt_9 hj hw h8 hT (fun lf' ll' ht => ?_) 49 0 50 lf rfl (by omega) (fun q h => absurd h (Nat.not_lt_zero q))⟩⟩
  dsimp only
  refine ⟨1 + sh_g w.length (tb_sh (tb_W w)), ?_⟩
  have hlen := tb_E_len w.length (tb_W w)
  refine xe_node hw w.length (Nat.le_refl _) (tb_W w) [] (tb_W_V w) h8 (by simp) (fun x h => by cases h) [] 0 1 lf' ll' _ ca co ht (ar_nil _ _) pk_us List.Pairwise.nil (fun y h => by cases h) (ar_nil _ _) (by rw [hlen]; simp; omega) (by omega) (fun L' lf2 ll2 tr2 ca2 co2 k1 k2 k3 k4 k5 => ?_)
  have hperm : L'.Perm ((wd_E w).map wd_cd) := by
    refine k2.trans ?_
    rw [List.nil_append, wd_E]
    have e : (fun w : List Nat => wd_cd (w ++ [])) = wd_cd := by funext w; rw [List.append_nil]
    rw [e]
  rw [wX_listKin_17]
  exact br_f (nI_ge (b := 100000) (by omega) (by decide)) (br_t (nI_lt (by omega) (by omega)) (hp L' lf2 ll2 tr2 ca2 co2 k1 hperm k3 k4))
end
section
variable {lt si ro cd sg nd : Nat → Int32}
theorem so_rk_s {L : List Nat} {m : Nat} (c : Nat) (h : m < L.length) : so_rk (L.take (m + 1)) c = so_rk (L.take m) c + (if L.getD m 0 < c then 1 else 0) := by
  rw [ls_take_succ h, so_rk, List.countP_append, List.countP_cons, List.countP_nil, so_rk, Nat.zero_add]
  congr 1
  by_cases g : L.getD m 0 < c
  · rw [if_pos g, if_pos (decide_eq_true g)]
  · rw [if_neg g, if_neg (by simpa using g)]
theorem yk_31 {post : Int32 → SY → Prop} {J : Int32 → Prop} {L : List Nat} {k : Nat} {x : Int32} (hL : L.length ≤ 35) (hb : ∀ y, y ∈ L → y < 2097152) (hcd : ar_H cd 0 L) (hk : k < L.length)
    (h1 : nI (so_rk L (L.getD k 0)) = x → post (nI (L.getD k 0)) (nI L.length, lt, si, ro, cd, sg, nd)) (h0 : ¬ nI (so_rk L (L.getD k 0)) = x → J (nI (k + 1))) :
    ∀ (d m n : Nat), m + d = L.length → d < n → wY_kinAt_31 post J x (nI k) (nI L.length) lt si ro cd sg nd n (nI (so_rk (L.take m) (L.getD k 0))) (nI m) := by
  intro d
  induction d with
  | zero =>
    intro m n hm hn
    obtain ⟨m', rfl⟩ : ∃ m', n = m' + 1 := ⟨n - 1, by omega⟩
    have e : m = L.length := by omega
    rw [wY_kinAt_31, e, List.take_length]
    dsimp only
    rw [nI_clamp (n := k) (by omega), ar_0 hcd hk]
    refine br_t (nI_le (Nat.le_refl _) (by omega)) (br_c (fun g => ⟨vp_in_nI (by omega) (by decide), h1 g⟩) (fun g => nm_r (nI_1 k) (h0 g)))
  | succ d ih =>
    intro m n hm hn
    obtain ⟨m', rfl⟩ : ∃ m', n = m' + 1 := ⟨n - 1, by omega⟩
    have hml : m < L.length := by omega
    have b1 := hb _ (ls_getD_mem hk)
    have b2 := hb _ (ls_getD_mem hml)
    have hi := ih (m + 1) m' (by omega) (by omega)
    rw [so_rk_s _ hml] at hi
    rw [wY_kinAt_31]
    dsimp only
    rw [nI_clamp (n := k) (by omega), nI_clamp (n := m) (by omega), ar_0 hcd hk, ar_0 hcd hml]
    refine br_f (nI_ge (by omega) (by omega)) ⟨vp_in_nI (by omega) (by decide), vp_in_nI (by omega) (by decide), pk_le (L.getD k 0) (L.getD m 0) (fun g => nm_r (nI_1 m) ?_) (fun g => nm_r (nI_1 _) (nm_r (nI_1 m) ?_))⟩
    · rw [if_neg (by omega)] at hi; exact hi
    · rw [if_pos g] at hi; exact hi
theorem yk_17 {post : Int32 → SY → Prop} {L : List Nat} {x : Int32} (hL : L.length ≤ 35) (hb : ∀ y, y ∈ L → y < 2097152) (hcd : ar_H cd 0 L)
    (h1 : ∀ c, c ∈ L → nI (so_rk L c) = x → post (nI c) (nI L.length, lt, si, ro, cd, sg, nd)) (h0 : (∀ c, c ∈ L → ¬ nI (so_rk L c) = x) → post (-4) (nI L.length, lt, si, ro, cd, sg, nd)) :
    ∀ (d k n : Nat), k + d = L.length → d < n → (∀ q, q < k → ¬ nI (so_rk L (L.getD q 0)) = x) → wY_kinAt_17 post x (nI L.length) lt si ro cd sg nd n (nI k) := by
  intro d
  induction d with
  | zero =>
    intro k n hk hn hq
    obtain ⟨m, rfl⟩ : ∃ m, n = m + 1 := ⟨n - 1, by omega⟩
    rw [wY_kinAt_17]
    refine br_t (nI_le (by omega) (by omega)) (h0 (fun c hc => ?_))
    obtain ⟨q, hq', e⟩ := List.mem_iff_getElem.mp hc
    have := hq q (by omega)
    rw [List.getD_eq_getElem?_getD, List.getElem?_eq_getElem hq'] at this
    rw [← e]; exact this
  | succ d ih =>
    intro k n hk hn hq
    obtain ⟨m, rfl⟩ : ∃ m, n = m + 1 := ⟨n - 1, by omega⟩
    have hkl : k < L.length := by omega
    rw [wY_kinAt_17]
    refine br_f (nI_ge (by omega) (by omega)) ⟨L.length + 1, yk_31 hL hb hcd hkl (fun g => h1 _ (ls_getD_mem hkl) g) (fun g => ih (k + 1) m (by omega) (by omega) (fun q hq' => ?_)) L.length 0 _ (by omega) (by omega)⟩
    by_cases c : q = k
    · rw [c]; exact g
    · exact hq q (by omega)
end
theorem sr_perm {w : List Nat} {C : List (List Nat)} (hw : w.length ≤ 7) (hn : C.Nodup) (hm : ∀ v, v ∈ C ↔ kn_eq w v) : (sr_C C).Perm ((wd_E w).map wd_cd) := (wd_full hw C hn hm).map wd_cd
theorem sr_nodup {w : List Nat} {C : List (List Nat)} (ho : wd_ok w) (hn : C.Nodup) (hm : ∀ v, v ∈ C ↔ kn_eq w v) : (sr_C C).Nodup := by
  refine List.pairwise_map.mpr (List.Pairwise.imp_of_mem ?_ hn)
  intro a b ha hb hab e
  have x := sr_ok ho ((hm a).mp ha)
  have y := sr_ok ho ((hm b).mp hb)
  exact hab (wd_inj a b (by omega) x.1 y.1 e)
theorem i_vc_kinAt {k : Nat} {u : SX} {v : SY} (I : i_Rel k u v) (hk : k + 3 ≤ 1536) (v1 : Int32) (v2 : Int32) : wpX_kinAt (fun r u' => wpY_kinAt (fun r' v' => r' = r ∧ i_Rel (k + 3) u' v') v v1 v2) u v1 v2 := by
  obtain ⟨f, cn, wo, en, le, lf, ll, tr, ca, co⟩ := u
  obtain ⟨g, lt, si, ro, cd, sg, nd⟩ := v
  have I0 := I
  obtain ⟨W, hW, hX, hY⟩ := I
  unfold wpX_kinAt
  dsimp only
  rcases ix_word v1 with hb | ⟨j, hj, rfl⟩
  · refine xb_bad hb (br_f (by decide) ?_)
    unfold wpY_kinAt
    exact yb_bad hb (br_f (by decide) ⟨rfl, I0⟩)
  · obtain ⟨c1, c2, c3⟩ := hX j hj
    obtain ⟨d1, d2⟩ := hY j hj
    obtain ⟨w7, wok⟩ := hW j hj
    dsimp only at c1 c2 c3 d1 d2
    refine xb_ok hj (br_t rfl ?_)
    have side : ∀ (r : Int32) (u' : SX), i_Rel (k + 3) u' (g, lt, si, ro, cd, sg, nd) → (∀ C : List (List Nat), C.Nodup → (∀ v, v ∈ C ↔ kn_eq (W j) v) → (∀ c, c ∈ sr_C C → nI (so_rk (sr_C C) c) = v2 → nI c = r) ∧ ((∀ c, c ∈ sr_C C → ¬ nI (so_rk (sr_C C) c) = v2) → (-4 : Int32) = r)) →
        wpY_kinAt (fun r' v' => r' = r ∧ i_Rel (k + 3) u' v') (g, lt, si, ro, cd, sg, nd) (nI j) v2 := by
      intro r u' hu hC
      unfold wpY_kinAt
      dsimp only
      refine yb_ok hj (br_t rfl (yq_wp hj w7 wok d1 d2 (fun C ro' cd' hn hm h35 hcd => ?_)))
      dsimp only
      obtain ⟨q1, q0⟩ := hC C hn hm
      have hI : sr_I (W j) C := ⟨(hm (W j)).mpr (kn_refl _), hn, fun u hu => (hm u).mp hu⟩
      refine ⟨(sr_C C).length + 1, ?_⟩
      rw [← sr_len C]
      exact yk_17 (by rw [sr_len]; exact h35) (sr_lt w7 wok hI) hcd (fun c hc e => ⟨q1 c hc e, hu⟩) (fun e => ⟨q0 e, hu⟩) (sr_C C).length 0 _ (by omega) (by omega) (fun q h => absurd h (Nat.not_lt_zero q))
    by_cases h0 : 0 ≤ v2
    · obtain ⟨q, hq, rfl⟩ := nI_of (x := v2) (Int32.not_lt.mpr h0)
      refine br_t h0 (xt_wp hj w7 wok c1 c3 (fun L lf' ll' tr' ca' co' k1 k2 k3 k4 => ?_))
      dsimp only
      have hL35 : L.length ≤ 35 := by
        rw [k2.length_eq, List.length_map]; exact wd_E_35 w7
      have I1 : i_Rel (k + 3) (nI L.length, cn, wo, en, le, lf', ll', tr', ca', co') (g, lt, si, ro, cd, sg, nd) := ⟨W, hW, hX, hY⟩
      have hfind : ∀ C : List (List Nat), C.Nodup → (∀ v, v ∈ C ↔ kn_eq (W j) v) → (sr_C C).Perm L ∧ L.Nodup := by
        intro C hn hm
        have p := (sr_perm w7 hn hm).trans k2.symm
        exact ⟨p, p.nodup_iff.mp (sr_nodup wok hn hm)⟩
      refine pk_le L.length q (fun h => ?_) (fun h => ?_)
      · refine side _ _ I1 (fun C hn hm => ⟨fun c hc e => ?_, fun _ => rfl⟩)
        obtain ⟨p, pn⟩ := hfind C hn hm
        have s1 := so_find k1 p pn hc
        have e2 := (nI_eq (by omega) hq).mp e
        omega
      · rw [nI_clamp (n := q) (by omega), ar_0 k4 h]
        refine ⟨vp_in_nI (by omega) (by decide), side _ _ I1 (fun C hn hm => ?_)⟩
        obtain ⟨p, pn⟩ := hfind C hn hm
        refine ⟨fun c hc e => ?_, fun hno => ?_⟩
        · have s1 := so_find k1 p pn hc
          have e2 := (nI_eq (by omega) hq).mp e
          rw [← e2, s1.2]
        · have hm2 : L.getD q 0 ∈ sr_C C := p.mem_iff.mpr (ls_getD_mem h)
          have e3 : so_rk (sr_C C) (L.getD q 0) = q := by
            have : so_rk (sr_C C) (L.getD q 0) = so_rk L (L.getD q 0) := p.countP_eq _
            rw [this, so_rk_at L q (so_strict k1 pn) h]
          exact absurd (by rw [e3]) (hno _ hm2)
    · refine br_f h0 (side _ _ I0 (fun C hn hm => ⟨fun c hc e => ?_, fun _ => rfl⟩))
      exfalso
      apply h0
      rw [← e]
      have hI : sr_I (W j) C := ⟨(hm (W j)).mpr (kn_refl _), hn, fun u hu => (hm u).mp hu⟩
      have h35 := sr_35 w7 hI
      have : so_rk (sr_C C) c ≤ (sr_C C).length := List.countP_le_length
      rw [sr_len] at this
      exact nI_pos' (by omega)
end
