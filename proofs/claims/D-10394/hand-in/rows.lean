section
/-! bits of an int as a set of places -/
def sd_t (x : Int32) (i : Nat) : Bool := x.toBitVec.getLsbD i
/-- place p is in the set x -/
def sd_b (x : Int32) (p : Nat) : Prop := ¬ ((x >>> (nI p &&& 31)) &&& 1) = 0
theorem sd_sl : ∀ n, n < 32 → ((nI n &&& 31).toBitVec.smod 32).toNat = n := by decide +kernel
theorem sd_sh {p : Nat} (hp : p < 32) (x : Int32) : sd_t (x >>> (nI p &&& 31)) 0 = sd_t x p := by
  unfold sd_t
  rw [Int32.toBitVec_shiftRight]
  show (x.toBitVec.sshiftRight ((nI p &&& 31).toBitVec.smod 32).toNat).getLsbD 0 = _
  rw [sd_sl p hp, BitVec.getLsbD_sshiftRight]
  simp [hp]
theorem sd_bt {p : Nat} (hp : p < 32) (x : Int32) : sd_b x p ↔ sd_t x p = true := by
  have e0 := sd_sh hp x
  unfold sd_b
  obtain ⟨j, hj, e⟩ := pk_andE (x >>> (nI p &&& 31)) (m := 1) 1 (by decide)
  have e1 : sd_t ((x >>> (nI p &&& 31)) &&& 1) 0 = sd_t x p := by
    rw [← e0]
    unfold sd_t
    rw [Int32.toBitVec_and, BitVec.getLsbD_and]
    show (_ && true) = _
    rw [Bool.and_true]
  rw [e] at e1 ⊢
  rw [← e1]
  have hj' : j = 0 ∨ j = 1 := by omega
  rcases hj' with rfl | rfl
  · decide
  · decide
theorem sd_bv {x : Int32} {p : Nat} (h : sd_b x p) : ((x >>> (nI p &&& 31)) &&& 1) = 1 := by
  unfold sd_b at h
  obtain ⟨j, hj, e⟩ := pk_andE (x >>> (nI p &&& 31)) (m := 1) 1 (by decide)
  rw [e] at h ⊢
  have hj' : j = 0 ∨ j = 1 := by omega
  rcases hj' with rfl | rfl
  · exact absurd rfl h
  · rfl
theorem sd_bor {p : Nat} (hp : p < 32) (x y : Int32) : sd_b (x ||| y) p ↔ sd_b x p ∨ sd_b y p := by
  rw [sd_bt hp, sd_bt hp, sd_bt hp]
  unfold sd_t
  rw [Int32.toBitVec_or, BitVec.getLsbD_or, Bool.or_eq_true]
theorem sd_b0 : ∀ p, p < 32 → ((((0 : Int32) >>> (nI p &&& 31)) &&& 1) = 0) := by decide +kernel
theorem sd_bs0 : ∀ q, q < 32 → ∀ p, p < 32 → (((((1 : Int32) <<< (nI q &&& 31)) >>> (nI p &&& 31)) &&& 1) = 0 ↔ p ≠ q) := by decide +kernel
theorem sd_bs {p q : Nat} (hp : p < 32) (hq : q < 32) : sd_b ((1 : Int32) <<< (nI q &&& 31)) p ↔ p = q := by
  unfold sd_b
  rw [sd_bs0 q hq p hp]
  exact Decidable.not_not
theorem sd_nb {o : Nat} (h : o ≤ 11) : vp_nar .byte (nI o) = nI o := by
  rw [vp_nar_byte]
  exact (by decide +kernel : ∀ o, o < 12 → (nI o).toInt8.toInt32 = nI o) o (by omega)
theorem sd_nb' {o : Nat} (h : o ≤ 11) : (nI o).toInt8.toInt32 = nI o := (by decide +kernel : ∀ o, o < 12 → (nI o).toInt8.toInt32 = nI o) o (by omega)
theorem sd_m1 {l : Nat} (h : 0 < l) : nI l - 1 = nI (l - 1) := pk_sub (a := l) (b := 1) (by omega)
theorem sd_ge4 {x : Int32} (h : ¬ x < 4) : 3 < x := by
  rw [Int32.lt_iff_toInt_lt] at h ⊢
  have e4 : (4 : Int32).toInt = 4 := by decide
  have e3 : (3 : Int32).toInt = 3 := by decide
  omega
/-! the program: n instructions, operations A below or at m, first operands B, second operands C -/
def sd_C (m n : Nat) (A B C : Nat → Int32) : Prop := n ≤ 20 ∧ ∀ j, j < n → ∃ o k : Nat, o ≤ m ∧ k ≤ 3 ∧ A j = nI o ∧ B j = nI k ∧ (1 ≤ o → o ≤ 4 → ∃ b : Nat, b ≤ 3 ∧ C j = nI b)
theorem sd_C0 {A B C : Nat → Int32} : sd_C 10 0 A B C := ⟨by omega, fun j h => absurd h (by omega)⟩
theorem sd_Ceq {m n : Nat} {A A' B C : Nat → Int32} (h : sd_C m n A B C) (e : ∀ j, j < n → A' j = A j) : sd_C m n A' B C := by
  refine ⟨h.1, fun j hj => ?_⟩
  rw [e j hj]
  exact h.2 j hj
theorem sd_Cadd {n o k : Nat} {A B C : Nat → Int32} {c : Int32} (h : sd_C 10 n A B C) (hn : n < 20) (ho : o ≤ 10) (hk : k ≤ 3) (hc : 1 ≤ o → o ≤ 4 → ∃ b : Nat, b ≤ 3 ∧ c = nI b) :
    sd_C 10 (n + 1) (upd A n (nI o)) (upd B n (nI k)) (upd C n c) := by
  refine ⟨by omega, fun j hj => ?_⟩
  by_cases e : j = n
  · subst e
    rw [pk_us, pk_us, pk_us]
    exact ⟨o, k, ho, hk, rfl, rfl, hc⟩
  · rw [pk_un e, pk_un e, pk_un e]
    exact h.2 j (by omega)
/-- where the target may stand behind the instruction o at p (level l, first operand k, second operand c) -/
def sd_g (o p l k : Nat) (c : Int32) (a5 a7 : Nat → Int32) (t : Int32) : Prop := (o ≤ 5 ∧ t = nI (p + 1)) ∨ (5 ≤ o ∧ o ≤ 7 ∧ t = c) ∨ (o = 8 ∧ t = a7 (l - 1)) ∨ (o = 9 ∧ t = a5 k)
/-- the aim is reached -/
def sd_aim (am ap ad q lv : Int32) : Prop := am = 1 ∨ (am = 4 ∧ ¬ ad ≤ lv) ∨ (am = 3 ∧ q = ap ∧ lv = ad) ∨ (am = 2 ∧ q = ap)
/-- the target can go on from q -/
def sd_go (n : Nat) (A : Nat → Int32) (l : Nat) (q : Int32) : Prop := ∃ p o : Nat, p < n ∧ o ≤ 10 ∧ q = nI p ∧ A p = nI o ∧ (o = 7 → l < 6) ∧ (o = 8 → 0 < l)
/-- what judge answers -/
def sd_J (n : Nat) (A : Nat → Int32) (bk am ap ad : Int32) (d l : Nat) (q ov r : Int32) : Prop :=
  r = 6 ∨ r = 4 ∨ r = 5 ∨ (r = 1 ∧ 0 < d ∧ sd_aim am ap ad q (nI l)) ∨ (r = 2 ∧ 0 < d ∧ ∃ p, p < n ∧ q = nI p ∧ sd_b bk p) ∨ (r = 3 ∧ 150 ≤ d) ∨ (r = 0 ∧ d < 150 ∧ ov = 0 ∧ sd_go n A l q ∧ (0 < d → ¬ sd_aim am ap ad q (nI l)))
end
section
/-! the methods that only read -/
section
variable {post : Int32 → Prop} {pl sz lv q ov ct bk wy am ap ad c : Int32} {a1 a2 a3 a4 a5 a6 a7 : Nat → Int32} {n : Nat}
theorem sd_ins (hn : n ≤ 20) (H1 : ∀ p, p < n → c = nI p → post 1) (H0 : (∀ p, p < n → c ≠ nI p) → post 0) :
    wpX_inside post (pl, nI n, lv, q, ov, ct, bk, wy, am, ap, ad, a1, a2, a3, a4, a5, a6, a7) c := by
  rcases pk_ix c (n := n) (by omega) with h | h | ⟨j, hj, e⟩
  · refine br_t h (H0 (fun p hp e => ?_))
    rw [e] at h
    exact nI_pos (by omega) h
  · have h0 : ∀ p, p < n → c ≠ nI p := by
      intro p hp e
      rw [e] at h
      exact nI_ge hp (by omega) h
    exact br_c (fun _ => H0 h0) (fun _ => br_t h (H0 h0))
  · subst e
    exact br_f (nI_pos (by omega)) (br_f (nI_ge hj (by omega)) (H1 j hj rfl))
theorem sd_bit (hn : n ≤ 20) (H : ∀ r, (∀ p, p < n → c = nI p → sd_b r p) → post r) :
    wpX_bit post (pl, nI n, lv, q, ov, ct, bk, wy, am, ap, ad, a1, a2, a3, a4, a5, a6, a7) c := by
  unfold wpX_bit
  dsimp only
  refine sd_ins hn (fun p hp e => br_f (by decide) (H _ (fun p' hp' e' => ?_))) (fun h => br_t rfl (H _ (fun p hp e => absurd e (h p hp))))
  rw [e'] at e ⊢
  exact (sd_bs (by omega) (by omega)).mpr rfl
/-- what codeAt answers -/
def sd_cd (n : Nat) (A B : Nat → Int32) (c : Int32) : Int32 := if c < 0 ∨ nI n ≤ c then -1 else A c.toNatClampNeg + 16 * B c.toNatClampNeg
theorem sd_cd_in {A B : Nat → Int32} {p : Nat} (hn : n ≤ 20) (hp : p < n) : sd_cd n A B (nI p) = A p + 16 * B p := by
  unfold sd_cd
  have h : ¬ (nI p < 0 ∨ nI n ≤ nI p) := by
    rintro (h | h)
    · exact nI_pos (by omega) h
    · exact nI_ge hp (by omega) h
  rw [if_neg h, nI_clamp (by omega)]
theorem sd_cd_out {A B : Nat → Int32} (hn : n ≤ 20) (h : ∀ p, p < n → c ≠ nI p) : sd_cd n A B c = -1 := by
  unfold sd_cd
  rcases pk_ix c (n := n) (by omega) with g | g | ⟨j, hj, e⟩
  · rw [if_pos (Or.inl g)]
  · rw [if_pos (Or.inr g)]
  · exact absurd e (h j hj)
theorem sd_cd_eq {A A' B : Nat → Int32} (hn : n ≤ 20) (e : ∀ j, j < n → A' j = A j) : sd_cd n A' B = sd_cd n A B := by
  funext c
  by_cases h : ∃ p, p < n ∧ c = nI p
  · obtain ⟨p, hp, rfl⟩ := h
    rw [sd_cd_in hn hp, sd_cd_in hn hp, e p hp]
  · have h' : ∀ p, p < n → c ≠ nI p := fun p hp g => h ⟨p, hp, g⟩
    rw [sd_cd_out hn h', sd_cd_out hn h']
theorem sd_code (hn : n ≤ 20) (h : post (sd_cd n a1 a2 c)) :
    wpX_codeAt post (pl, nI n, lv, q, ov, ct, bk, wy, am, ap, ad, a1, a2, a3, a4, a5, a6, a7) c := by
  unfold wpX_codeAt
  dsimp only
  refine sd_ins hn (fun p hp e => br_f (by decide) ?_) (fun g => br_t rfl ?_)
  · subst e
    rw [sd_cd_in hn hp] at h
    refine ⟨pk_in p 20 (by omega), pk_in p 20 (by omega), ?_⟩
    rw [nI_clamp (by omega)]
    exact h
  · rw [sd_cd_out hn g] at h
    exact h
/-- what codes answers -/
def sd_cs (f : Int32 → Int32) (x : Int32) : Nat → Int64
  | 0 => 0
  | k + 1 => sd_cs f x k ||| (((f (x + nI k)) &&& 63).toInt64 <<< ((6 * nI k).toInt64 &&& 63))
theorem sd_codes {post : Int64 → Prop} (hn : n ≤ 20) (h : post (sd_cs (sd_cd n a1 a2) c 10)) :
    wpL_codes post (pl, nI n, lv, q, ov, ct, bk, wy, am, ap, ad, a1, a2, a3, a4, a5, a6, a7) c :=
  pk_loop (fun m i s => wL_codes_5 post c pl (nI n) lv q ov ct bk wy am ap ad a1 a2 a3 a4 a5 a6 a7 m s (nI i)) (fun i s => s = sd_cs (sd_cd n a1 a2) c i) 10 0 0 (by omega) rfl
    (fun m s e => pk_le 10 10 (fun _ => by rw [e]; exact h) (fun z => absurd z (by omega)))
    (fun m i s hi e hw => pk_le 10 i (fun z => absurd z (by omega)) (fun _ => sd_code hn (nm_e (nm_e (nm_r (nI_1 i) (hw _ (by rw [e]; rfl)))))))
theorem sd_stuck {p o l : Nat} (hp : p < 20) (ho : o ≤ 11) (hl : l ≤ 6) (e1 : a1 p = nI o) (H1 : ((o = 7 ∧ l = 6) ∨ (o = 8 ∧ l = 0)) → post 1) (H0 : (o = 7 → l < 6) → (o = 8 → 0 < l) → post 0) :
    wpX_stuck post (pl, sz, nI l, nI p, ov, ct, bk, wy, am, ap, ad, a1, a2, a3, a4, a5, a6, a7) := by
  have ec : a1 (nI p).toNatClampNeg = nI o := by rw [nI_clamp (by omega), e1]
  have h23 : (o = 7 → l < 6) → wX_stuck_23 post pl sz (nI l) (nI p) ov ct bk wy am ap ad a1 a2 a3 a4 a5 a6 a7 :=
    fun h7 => ⟨pk_in p 20 hp, pk_eq o 8 (fun z => pk_eq l 0 (fun y => H1 (Or.inr ⟨z, y⟩)) (fun y => H0 h7 (fun _ => by omega))) (fun z => H0 h7 (fun y => absurd y z)) ec⟩
  exact ⟨pk_in p 20 hp, pk_eq o 7 (fun z => pk_le 6 l (fun y => H1 (Or.inl ⟨z, by omega⟩)) (fun y => h23 (fun _ => y))) (fun z => h23 (fun y => absurd y z)) ec⟩
theorem sd_aimed (H1 : sd_aim am ap ad q lv → post 1) (H0 : ¬ sd_aim am ap ad q lv → post 0) :
    wpX_aimReached post (pl, sz, lv, q, ov, ct, bk, wy, am, ap, ad, a1, a2, a3, a4, a5, a6, a7) := by
  refine br_c (fun h1 => H1 (Or.inl h1)) (fun h1 => br_c (fun h4 => br_c (fun g => H0 ?_) (fun g => H1 (Or.inr (Or.inl ⟨h4, g⟩))))
    (fun h4 => br_c (fun h3 => br_c (fun e => br_c (fun g => H1 (Or.inr (Or.inr (Or.inl ⟨h3, e, g⟩)))) (fun g => H0 ?_)) (fun e => H0 ?_))
      (fun h3 => br_c (fun h2 => br_c (fun e => H1 (Or.inr (Or.inr (Or.inr ⟨h2, e⟩)))) (fun e => H0 ?_)) (fun h2 => H0 ?_))))
  all_goals
    rintro (z | ⟨z, z'⟩ | ⟨z, z', z''⟩ | ⟨z, z'⟩) <;> first
      | exact h1 z
      | exact h4 z
      | exact h3 z
      | exact h2 z
      | exact absurd (h4.symm.trans z) (by decide)
      | exact absurd (h3.symm.trans z) (by decide)
      | exact absurd (h2.symm.trans z) (by decide)
      | exact z' g
      | exact e z'
      | exact g z''
theorem sd_judge {d l : Nat} {A : Nat → Int32} (hc : sd_C 10 n A a2 a3) (hA : ∀ j, j < n → a1 j = A j) (hl : l ≤ 6) (hd : d ≤ 150) (H : ∀ r, sd_J n A bk am ap ad d l q ov r → post r) :
    wpX_judge post (pl, nI n, nI l, q, ov, ct, bk, wy, am, ap, ad, a1, a2, a3, a4, a5, a6, a7) (nI d) := by
  unfold wpX_judge
  dsimp only
  refine br_c (fun hov => sd_ins hc.1 (fun p hp e => br_f (by decide) ?_) (fun _ => br_t rfl (H 4 (Or.inr (Or.inl rfl))))) (fun _ => H 6 (Or.inl rfl))
  subst e
  obtain ⟨o, k, ho, hk, e1, e2, e3⟩ := hc.2 p hp
  have hn := hc.1
  refine sd_stuck (o := o) (by omega) (by omega) hl ((hA p hp).trans e1) (fun _ => br_f (by decide) (H 5 (Or.inr (Or.inr (Or.inl rfl))))) (fun h7 h8 => br_t rfl ?_)
  have h65 : (0 < d → ¬ sd_aim am ap ad (nI p) (nI l)) → wX_judge_65 post (nI d) pl (nI n) (nI l) (nI p) ov ct bk wy am ap ad a1 a2 a3 a4 a5 a6 a7 :=
    fun h => pk_lt d 150 (fun z => H 0 (Or.inr (Or.inr (Or.inr (Or.inr (Or.inr (Or.inr ⟨rfl, z, hov, ⟨p, o, hp, ho, rfl, e1, h7, h8⟩, h⟩)))))))
      (fun z => H 3 (Or.inr (Or.inr (Or.inr (Or.inr (Or.inr (Or.inl ⟨rfl, z⟩)))))))
  have h45 : (0 < d → ¬ sd_aim am ap ad (nI p) (nI l)) → wX_judge_45 post (nI d) pl (nI n) (nI l) (nI p) ov ct bk wy am ap ad a1 a2 a3 a4 a5 a6 a7 :=
    fun h => pk_le d 0 (fun _ => h65 h) (fun z => br_c (fun _ => h65 h) (fun y => H 2 (Or.inr (Or.inr (Or.inr (Or.inr (Or.inl ⟨rfl, z, p, hp, rfl, y⟩)))))))
  exact pk_le d 0 (fun z => h45 (fun y => absurd y (by omega))) (fun z => sd_aimed (fun ha => br_f (by decide) (H 1 (Or.inr (Or.inr (Or.inr (Or.inl ⟨rfl, z, ha⟩)))))) (fun ha => br_t rfl (h45 (fun _ => ha))))
theorem sd_J0 {A : Nat → Int32} {d l : Nat} (h : sd_J n A bk am ap ad d l q ov 0) : d < 150 ∧ ov = 0 ∧ sd_go n A l q ∧ (0 < d → ¬ sd_aim am ap ad q (nI l)) := by
  rcases h with h | h | h | ⟨h, _⟩ | ⟨h, _⟩ | ⟨h, _⟩ | ⟨_, h⟩
  · exact absurd h (by decide)
  · exact absurd h (by decide)
  · exact absurd h (by decide)
  · exact absurd h (by decide)
  · exact absurd h (by decide)
  · exact absurd h (by decide)
  · exact h
end
end
section
/-! one instruction; where it may lead; traps -/
section
variable {pl sz lv q ov ct bk wy am ap ad c : Int32} {a1 a2 a3 a4 a5 a6 a7 : Nat → Int32} {n : Nat}
theorem sd_work {post : St1 → Prop} {o k : Nat} (ho : o ≤ 4) (hk : k ≤ 3) (hc : 1 ≤ o → ∃ b : Nat, b ≤ 3 ∧ c = nI b)
    (H : ∀ x5 x6, post (pl, sz, lv, q, ov, ct, bk, wy, am, ap, ad, a1, a2, a3, a4, x5, x6, a7)) :
    wpX_work post (pl, sz, lv, q, ov, ct, bk, wy, am, ap, ad, a1, a2, a3, a4, a5, a6, a7) (nI o) (nI k) c := by
  have hK : vp_in (nI k) 4 := pk_in k 4 (by omega)
  refine pk_eq o 0 (fun z => ⟨hK, nm_e (H _ _)⟩) (fun z => ?_)
  obtain ⟨b, hb, rfl⟩ := hc (by omega)
  have hB : vp_in (nI b) 4 := pk_in b 4 (by omega)
  have hM : ∀ x : Int32, vp_in (x &&& 7) 8 := fun x => pk_andIn x 3 (by decide) (by decide)
  exact pk_eq o 1 (fun _ => ⟨hK, hB, hK, nm_e (H _ _)⟩) (fun _ => pk_eq o 2 (fun _ => ⟨hK, hB, hK, nm_e (H _ _)⟩)
    (fun _ => pk_eq o 3 (fun _ => ⟨hB, hM _, hK, nm_e (H _ _)⟩) (fun _ => ⟨hB, hK, hM _, nm_e (H _ _)⟩)))
theorem sd_carry {post : St1 → Prop} {p o k l : Nat} (hp : p < 20) (ho : o ≤ 10) (hk : k ≤ 3) (hl : l ≤ 6) (e1 : a1 p = nI o) (e2 : a2 p = nI k) (e3 : 1 ≤ o → o ≤ 4 → ∃ b : Nat, b ≤ 3 ∧ a3 p = nI b) (h7 : o = 7 → l < 6) (h8 : o = 8 → 0 < l)
    (H : ∀ l' q' ov' x5 x6 x7, l' ≤ 6 → (ov' = 0 → sd_g o p l k (a3 p) a5 a7 q') → post (pl, sz, nI l', q', ov', ct, bk, wy, am, ap, ad, a1, a2, a3, a4, x5, x6, x7)) :
    wpX_carry post (pl, sz, nI l, nI p, ov, ct, bk, wy, am, ap, ad, a1, a2, a3, a4, a5, a6, a7) := by
  have hP : vp_in (nI p) 20 := pk_in p 20 hp
  have cp : (nI p).toNatClampNeg = p := nI_clamp (by omega)
  have hK : vp_in (nI k) 4 := pk_in k 4 (by omega)
  refine ⟨hP, nm_r (e' := nI o) (by rw [cp, e1]) ⟨hP, nm_r (e' := nI k) (by rw [cp, e2]) ⟨hP, nm_r (e' := a3 p) (by rw [cp]) ?_⟩⟩⟩
  refine pk_lt 4 o (fun z => ?_) (fun z => ?_)
  · refine pk_eq o 5 (fun y => ⟨hK, br_c (fun _ => H l _ ov _ _ _ hl (fun _ => Or.inr (Or.inl ⟨by omega, by omega, rfl⟩))) (fun _ => nm_r (nI_1 p) (H l _ ov _ _ _ hl (fun _ => Or.inl ⟨by omega, rfl⟩)))⟩) (fun y5 => ?_)
    refine pk_eq o 6 (fun y => H l _ ov _ _ _ hl (fun _ => Or.inr (Or.inl ⟨by omega, by omega, rfl⟩))) (fun y6 => ?_)
    refine pk_eq o 7 (fun y => ⟨pk_in l 6 (h7 y), nm_e (nm_r (nI_1 l) (H (l + 1) _ ov _ _ _ (h7 y) (fun _ => Or.inr (Or.inl ⟨by omega, by omega, rfl⟩))))⟩) (fun y7 => ?_)
    refine pk_eq o 8 (fun y => nm_r (sd_m1 (h8 y)) ⟨pk_in (l - 1) 6 (by omega), nm_r (e' := a7 (l - 1)) (by rw [nI_clamp (by omega)]) (H (l - 1) _ ov _ _ _ (by omega) (fun _ => Or.inr (Or.inr (Or.inl ⟨y, rfl⟩))))⟩) (fun y8 => ?_)
    refine pk_eq o 9 (fun y => ⟨hK, nm_r (e' := a5 k) (by rw [nI_clamp (by omega)]) (H l _ ov _ _ _ hl (fun _ => Or.inr (Or.inr (Or.inr ⟨y, rfl⟩))))⟩) (fun y9 => ?_)
    exact H l _ 1 _ _ _ hl (fun t => absurd t (by decide))
  · refine sd_work z hk (fun y => e3 y z) (fun x5 x6 => ?_)
    exact nm_r (nI_1 p) (H l _ ov _ _ _ hl (fun _ => Or.inl ⟨by omega, rfl⟩))
theorem sd_succ {post : Int32 → Prop} {p o k l : Nat} (hn : n ≤ 20) (hp : p < n) (ho : o ≤ 10) (hk : k ≤ 3) (hl : l ≤ 6) (e1 : a1 p = nI o) (e2 : a2 p = nI k)
    (h8 : o = 8 → 0 < l) (H : ∀ r, (∀ t, t < n → sd_g o p l k (a3 p) a5 a7 (nI t) → sd_b r t) → post r) :
    wpX_successors post (pl, nI n, nI l, nI p, ov, ct, bk, wy, am, ap, ad, a1, a2, a3, a4, a5, a6, a7) := by
  have hP : vp_in (nI p) 20 := pk_in p 20 (by omega)
  have cp : (nI p).toNatClampNeg = p := nI_clamp (by omega)
  have hK : vp_in (nI k) 4 := pk_in k 4 (by omega)
  unfold wpX_successors
  dsimp only
  rw [cp]
  refine ⟨hP, nm_r e1 ?_⟩
  rw [nI_1]
  refine sd_bit hn (fun r hr => ?_)
  refine pk_eq o 5 (fun y => ⟨hP, sd_bit hn (fun r2 hr2 => H _ (fun t ht g => (sd_bor (by omega) _ _).mpr ?_))⟩) (fun y5 => ?_)
  · rcases g with ⟨_, g⟩ | ⟨_, _, g⟩ | ⟨g, _⟩ | ⟨g, _⟩
    · exact Or.inl (hr t ht g.symm)
    · exact Or.inr (hr2 t ht g.symm)
    · exact absurd g (by omega)
    · exact absurd g (by omega)
  have h54 : o = 6 ∨ o = 7 → wX_successors_54 post pl (nI n) (nI l) (nI p) ov ct bk wy am ap ad a1 a2 a3 a4 a5 a6 a7 := by
    intro h
    unfold wX_successors_54
    rw [cp]
    refine ⟨hP, sd_bit hn (fun r2 hr2 => H _ (fun t ht g => ?_))⟩
    rcases g with ⟨g, _⟩ | ⟨_, _, g⟩ | ⟨g, _⟩ | ⟨g, _⟩
    · exact absurd g (by omega)
    · exact hr2 t ht g.symm
    · exact absurd g (by omega)
    · exact absurd g (by omega)
  refine pk_eq o 6 (fun y => h54 (Or.inl y)) (fun y6 => pk_eq o 7 (fun y => h54 (Or.inr y)) (fun y7 => ?_))
  refine pk_eq o 8 (fun y => pk_le l 0 (fun z => absurd (h8 y) (by omega)) (fun z => ?_)) (fun y8 => ?_)
  · rw [sd_m1 z, nI_clamp (show l - 1 < 2 ^ 31 by omega)]
    refine ⟨pk_in (l - 1) 6 (by omega), sd_bit hn (fun r2 hr2 => H _ (fun t ht g => ?_))⟩
    rcases g with ⟨g, _⟩ | ⟨_, g, _⟩ | ⟨_, g⟩ | ⟨g, _⟩
    · exact absurd g (by omega)
    · exact absurd g (by omega)
    · exact hr2 t ht g.symm
    · exact absurd g (by omega)
  refine pk_eq o 9 (fun y => ⟨hP, ?_⟩) (fun y9 => ?_)
  · rw [e2, nI_clamp (show k < 2 ^ 31 by omega)]
    refine ⟨hK, sd_bit hn (fun r2 hr2 => H _ (fun t ht g => ?_))⟩
    rcases g with ⟨g, _⟩ | ⟨_, g, _⟩ | ⟨g, _⟩ | ⟨_, g⟩
    · exact absurd g (by omega)
    · exact absurd g (by omega)
    · exact absurd g (by omega)
    · exact hr2 t ht g.symm
  refine pk_eq o 10 (fun y => H _ (fun t ht g => ?_)) (fun y10 => H _ (fun t ht g => ?_))
  · rcases g with ⟨g, _⟩ | ⟨_, g, _⟩ | ⟨g, _⟩ | ⟨g, _⟩
    · exact absurd g (by omega)
    · exact absurd g (by omega)
    · exact absurd g (by omega)
    · exact absurd g (by omega)
  · rcases g with ⟨_, g⟩ | ⟨g, _, _⟩ | ⟨g, _⟩ | ⟨g, _⟩
    · exact hr t ht g.symm
    · exact absurd g (by omega)
    · exact absurd g (by omega)
    · exact absurd g (by omega)
/-- plant's loop: what stands below and at or above i -/
def sd_pI (n : Nat) (S : Int32) (A : Nat → Int32) (i : Nat) (s : Int32 × (Nat → Int32) × (Nat → Int32)) : Prop :=
  ∀ j, j < n → ((j < i ∧ sd_b S j) → s.2.1 j = nI 11 ∧ s.2.2 j = A j ∧ sd_b s.1 j) ∧ (¬ (j < i ∧ sd_b S j) → s.2.1 j = A j ∧ ¬ sd_b s.1 j)
theorem sd_pIs {S : Int32} {A : Nat → Int32} {i : Nat} {s : Int32 × (Nat → Int32) × (Nat → Int32)} (h : sd_pI n S A i s) (hb : ¬ sd_b S i) : sd_pI n S A (i + 1) s := by
  intro j hj
  obtain ⟨g1, g2⟩ := h j hj
  refine ⟨fun z => g1 ⟨?_, z.2⟩, fun z => g2 (fun y => z ⟨by omega, y.2⟩)⟩
  have hne : j ≠ i := fun e => hb (e ▸ z.2)
  have := z.1
  omega
theorem sd_pIt {S pl : Int32} {A x1 x4 : Nat → Int32} {i : Nat} (hn : n ≤ 20) (hi : i < n) (hA : vp_nar .byte (A i) = A i) (h : sd_pI n S A i (pl, x1, x4)) (hb : sd_b S i) :
    sd_pI n S A (i + 1) (pl ||| ((1 : Int32) <<< (nI i &&& 31)), upd x1 i 11, upd x4 i (vp_nar .byte (x1 i))) := by
  intro j hj
  obtain ⟨g1, g2⟩ := h j hj
  dsimp only at g1 g2 ⊢
  rw [sd_bor (by omega), sd_bs (by omega) (by omega)]
  by_cases e : j = i
  · subst e
    have g3 := g2 (fun y => absurd y.1 (by omega))
    refine ⟨fun _ => ⟨by rw [pk_us]; rfl, by rw [pk_us, g3.1, hA], Or.inr rfl⟩, fun z => absurd ⟨by omega, hb⟩ z⟩
  · rw [pk_un e, pk_un e]
    refine ⟨fun z => ?_, fun z => ?_⟩
    · have g3 := g1 ⟨by omega, z.2⟩
      exact ⟨g3.1, g3.2.1, Or.inl g3.2.2⟩
    · have g3 := g2 (fun y => z ⟨by omega, y.2⟩)
      exact ⟨g3.1, fun y => y.elim g3.2 e⟩
theorem sd_plant {post : St1 → Prop} {S : Int32} {A : Nat → Int32} (hn : n ≤ 20) (hA : ∀ j, j < n → a1 j = A j) (hB : ∀ j, j < n → vp_nar .byte (A j) = A j)
    (H : ∀ pl' x1 x4, (∀ j, j < n → sd_b S j → x1 j = nI 11 ∧ x4 j = A j ∧ sd_b pl' j) → (∀ j, j < n → ¬ sd_b S j → x1 j = A j ∧ ¬ sd_b pl' j) → post (pl', nI n, lv, q, ov, ct, bk, wy, am, ap, ad, x1, a2, a3, x4, a5, a6, a7)) :
    wpX_plant post (0, nI n, lv, q, ov, ct, bk, wy, am, ap, ad, a1, a2, a3, a4, a5, a6, a7) S := by
  refine pk_loop (fun m i (s : Int32 × (Nat → Int32) × (Nat → Int32)) => wX_plant_2 post S (nI n) lv q ov ct bk wy am ap ad m (nI i) s.1 s.2.1 a2 a3 s.2.2 a5 a6 a7) (sd_pI n S A) n 0 (0, a1, a4) (by omega) ?_ ?_ ?_
  · intro j hj
    exact ⟨fun z => absurd z.1 (by omega), fun _ => ⟨hA j hj, fun z => z (sd_b0 j (by omega))⟩⟩
  · intro m s h
    refine pk_le n n (fun _ => H s.1 s.2.1 s.2.2 (fun j hj z => (h j hj).1 ⟨hj, z⟩) (fun j hj z => (h j hj).2 (fun y => z y.2))) (fun z => absurd z (by omega))
  · intro m i s hi h hw
    obtain ⟨s1, s2, s4⟩ := s
    refine pk_le n i (fun z => absurd z (by omega)) (fun _ => br_c (fun z => nm_r (nI_1 i) (hw (s1, s2, s4) (sd_pIs h (fun y => y z)))) (fun z => ?_))
    have hI : vp_in (nI i) 20 := pk_in i 20 (by omega)
    have ci : (nI i).toNatClampNeg = i := nI_clamp (by omega)
    refine ⟨hI, hI, nm_r (e' := upd s4 i (vp_nar .byte (s2 i))) (by rw [ci]) ⟨hI, nm_r (e' := upd s2 i 11) (by rw [ci]) (nm_e (nm_r (nI_1 i) ?_))⟩⟩
    exact hw (s1 ||| ((1 : Int32) <<< (nI i &&& 31)), upd s2 i 11, upd s4 i (vp_nar .byte (s2 i))) (sd_pIt hn hi (hB i hi) h z)
theorem sd_lift {post : St1 → Prop} {A : Nat → Int32} (hn : n ≤ 20) (h1 : ∀ j, j < n → sd_b pl j → vp_nar .byte (a4 j) = A j) (h0 : ∀ j, j < n → ¬ sd_b pl j → a1 j = A j)
    (H : ∀ x1, (∀ j, j < n → x1 j = A j) → post (0, nI n, lv, q, ov, ct, bk, wy, am, ap, ad, x1, a2, a3, a4, a5, a6, a7)) :
    wpX_lift post (pl, nI n, lv, q, ov, ct, bk, wy, am, ap, ad, a1, a2, a3, a4, a5, a6, a7) := by
  refine pk_loop (fun m i (s : Nat → Int32) => wX_lift_2 post pl (nI n) lv q ov ct bk wy am ap ad m (nI i) s a2 a3 a4 a5 a6 a7) (fun i s => ∀ j, j < n → (j < i ∨ ¬ sd_b pl j) → s j = A j) n 0 a1 (by omega) ?_ ?_ ?_
  · exact fun j hj z => h0 j hj (z.elim (fun y => absurd y (by omega)) id)
  · intro m s h
    exact pk_le n n (fun _ => H s (fun j hj => h j hj (Or.inl hj))) (fun z => absurd z (by omega))
  · intro m i s hi h hw
    refine pk_le n i (fun z => absurd z (by omega)) (fun _ => br_c (fun z => nm_r (nI_1 i) (hw s (fun j hj y => h j hj ?_))) (fun z => ?_))
    · by_cases e : j = i
      · subst e
        exact Or.inr (fun t => t z)
      · exact y.elim (fun t => Or.inl (by omega)) Or.inr
    · have hI : vp_in (nI i) 20 := pk_in i 20 (by omega)
      have ci : (nI i).toNatClampNeg = i := nI_clamp (by omega)
      refine ⟨hI, hI, nm_r (e' := upd s i (vp_nar .byte (a4 i))) (by rw [ci]) (nm_r (nI_1 i) (hw _ (fun j hj y => ?_)))⟩
      by_cases e : j = i
      · subst e
        rw [pk_us]
        exact h1 j hj z
      · rw [pk_un e]
        exact h j hj (y.elim (fun t => Or.inl (by omega)) Or.inr)
end
end
section
/-! resume, stepOff, run -/
section
variable {pl sz lv q ov ct bk wy am ap ad c : Int32} {a1 a2 a3 a4 a5 a6 a7 : Nat → Int32} {n : Nat}
theorem sd_ct (ct : Int32) (d : Nat) : ct + nI d + 1 = ct + nI (d + 1) := by rw [Int32.add_assoc, nI_1]
theorem sd_ct2 (ct : Int32) (d e : Nat) : ct + nI d + nI e = ct + nI (d + e) := by rw [Int32.add_assoc, nI_add]
theorem sd_res {post : Int32 → St1 → Prop} {m : Nat} (hc : sd_C 11 n a1 a2 a3) (hm : m ≤ 150)
    (H : ∀ d l q ov x5 x6 x7, d ≤ m → l ≤ 6 → post (nI d) (pl, nI n, nI l, q, ov, ct + nI d, bk, wy, am, ap, ad, a1, a2, a3, a4, x5, x6, x7)) :
    ∀ f d l q ov x5 x6 x7, d ≤ m → m < f + d → l ≤ 6 → wX_resume_4 post (nI m) f (nI d) (nI d) pl (nI n) (nI l) q ov (ct + nI d) bk wy am ap ad a1 a2 a3 a4 x5 x6 x7 := by
  intro f
  induction f with
  | zero => intro d l q ov x5 x6 x7 h1 h2 h3; exact absurd h2 (by omega)
  | succ f ih =>
    intro d l q ov x5 x6 x7 hd hf hl
    have hpost := H d l q ov x5 x6 x7 hd hl
    have hn := hc.1
    refine pk_le m d (fun _ => hpost) (fun hlt => br_c (fun _ => sd_ins hc.1 (fun p hp e => br_f (by decide) ?_) (fun _ => br_t rfl hpost)) (fun _ => hpost))
    subst e
    obtain ⟨o, k, ho, hk, e1, e2, e3⟩ := hc.2 p hp
    have ec : a1 (nI p).toNatClampNeg = nI o := by rw [nI_clamp (by omega), e1]
    refine ⟨pk_in p 20 (by omega), pk_eq o 11 (fun _ => hpost) (fun h11 => ?_) ec⟩
    refine sd_stuck (o := o) (by omega) ho hl e1 (fun _ => br_f (by decide) hpost) (fun h7 h8 => br_t rfl ?_)
    refine sd_carry (by omega) (by omega) hk hl e1 e2 e3 h7 h8 (fun l' q' ov' y5 y6 y7 hl' _ => ?_)
    exact nm_r (nI_1 d) (nm_r (sd_ct ct d) (nm_r (nI_1 d) (ih (d + 1) l' q' ov' y5 y6 y7 (by omega) (by omega) hl')))
theorem sd_resume {post : Int32 → St1 → Prop} {m l : Nat} {x : Int32} (hx : x = nI m) (hc : sd_C 11 n a1 a2 a3) (hm : m ≤ 150) (hl : l ≤ 6)
    (H : ∀ d l q ov x5 x6 x7, d ≤ m → l ≤ 6 → post (nI d) (pl, nI n, nI l, q, ov, ct + nI d, bk, wy, am, ap, ad, a1, a2, a3, a4, x5, x6, x7)) :
    wpX_resume post (pl, nI n, nI l, q, ov, ct, bk, wy, am, ap, ad, a1, a2, a3, a4, a5, a6, a7) x := by
  subst hx
  have h := sd_res (post := post) hc hm H (m + 1) 0 l q ov a5 a6 a7 (by omega) (by omega) hl
  rw [nI_0, Int32.add_zero] at h
  exact ⟨m + 1, h⟩
theorem sd_res1 {post : Int32 → St1 → Prop} {m l p o k : Nat} {x : Int32} (hx : x = nI m) (hm1 : 1 ≤ m) (hm2 : m ≤ 2) (hn : n ≤ 20) (hp : p < n) (ho : o ≤ 10) (hk : k ≤ 3) (hl : l ≤ 6) (e1 : a1 p = nI o) (e2 : a2 p = nI k) (e3 : 1 ≤ o → o ≤ 4 → ∃ b : Nat, b ≤ 3 ∧ a3 p = nI b) (h7 : o = 7 → l < 6) (h8 : o = 8 → 0 < l)
    (ht : m = 2 → ∀ t, t < n → sd_g o p l k (a3 p) a5 a7 (nI t) → a1 t = nI 11)
    (H : ∀ l q ov x5 x6 x7, l ≤ 6 → post 1 (pl, nI n, nI l, q, ov, ct + 1, bk, wy, am, ap, ad, a1, a2, a3, a4, x5, x6, x7)) :
    wpX_resume post (pl, nI n, nI l, nI p, 0, ct, bk, wy, am, ap, ad, a1, a2, a3, a4, a5, a6, a7) x := by
  subst hx
  have h2 : ∀ l' q' ov' y5 y6 y7, l' ≤ 6 → (ov' = 0 → sd_g o p l k (a3 p) a5 a7 q') → wX_resume_4 post (nI m) 1 1 1 pl (nI n) (nI l') q' ov' (ct + 1) bk wy am ap ad a1 a2 a3 a4 y5 y6 y7 := by
    intro l' q' ov' y5 y6 y7 hl' hg
    have hpost := H l' q' ov' y5 y6 y7 hl'
    refine pk_le m 1 (fun _ => hpost) (fun hlt => br_c (fun hov => sd_ins hn (fun p' hp' e => br_f (by decide) ?_) (fun _ => br_t rfl hpost)) (fun _ => hpost))
    subst e
    have ec : a1 (nI p').toNatClampNeg = nI 11 := by rw [nI_clamp (by omega), ht (by omega) p' hp' (hg hov)]
    exact ⟨pk_in p' 20 (by omega), br_t ec hpost⟩
  have ec : a1 (nI p).toNatClampNeg = nI o := by rw [nI_clamp (by omega), e1]
  refine ⟨2, pk_le m 0 (fun z => absurd z (by omega)) (fun _ => br_t rfl (sd_ins hn (fun p' hp' e => br_f (by decide) ?_) (fun z => absurd rfl (z p hp))))⟩
  refine ⟨pk_in p 20 (by omega), pk_eq o 11 (fun z => absurd z (by omega)) (fun _ => ?_) ec⟩
  refine sd_stuck (o := o) (by omega) (by omega) hl e1 (fun z => ?_) (fun _ _ => br_t rfl ?_)
  · rcases z with ⟨z, y⟩ | ⟨z, y⟩
    · exact absurd (h7 z) (by omega)
    · exact absurd (h8 z) (by omega)
  · refine sd_carry (by omega) ho hk hl e1 e2 e3 h7 h8 (fun l' q' ov' y5 y6 y7 hl' hg => ?_)
    exact nm_r (by rfl) (nm_e (nm_r (by rfl) (h2 l' q' ov' y5 y6 y7 hl' hg)))
theorem sd_nar {A B C : Nat → Int32} (hc : sd_C 10 n A B C) : ∀ j, j < n → vp_nar .byte (A j) = A j := by
  intro j hj
  obtain ⟨o, k, ho, _, e, _⟩ := hc.2 j hj
  rw [e]
  exact sd_nb (by omega)
theorem sd_off {post : Int32 → St1 → Prop} {A : Nat → Int32} {l : Nat} (hc : sd_C 10 n A a2 a3) (hA : ∀ j, j < n → a1 j = A j) (hl : l ≤ 6) (hg : sd_go n A l q)
    (H : ∀ l' q' ov' x1 x4 x5 x6 x7, l' ≤ 6 → (∀ j, j < n → x1 j = A j) → post 1 (0, nI n, nI l', q', ov', ct + 1, bk, wy, am, ap, ad, x1, a2, a3, x4, x5, x6, x7)) :
    wpX_stepOff post (0, nI n, nI l, q, 0, ct, bk, wy, am, ap, ad, a1, a2, a3, a4, a5, a6, a7) := by
  obtain ⟨p, o, hp, ho, rfl, e1, h7, h8⟩ := hg
  obtain ⟨o', k, ho', hk, e1', e2, e3⟩ := hc.2 p hp
  have hn := hc.1
  have eo : o' = o := (nI_eq (by omega) (by omega)).mp (e1'.symm.trans e1)
  subst eo
  unfold wpX_stepOff
  dsimp only
  refine sd_succ hn hp ho hk hl ((hA p hp).trans e1) e2 h8 (fun r hr => br_c (fun hz => ?_) (fun hnz => ?_))
  · refine sd_plant (A := A) hn hA (sd_nar hc) (fun pl' x1 x4 hb hnb => ?_)
    have hp0 : ¬ sd_b r p := fun z => z hz
    refine sd_res1 (m := 2) (by rfl) (by omega) (by omega) hn hp ho hk hl ((hnb p hp hp0).1.trans e1) e2 e3 h7 h8 (fun _ t ht g => (hb t ht (hr t ht g)).1) (fun l' q' ov' x5 x6 x7 hl' => ?_)
    refine sd_lift (A := A) hn (fun j hj z => ?_) (fun j hj z => ?_) (fun y1 hy => H l' q' ov' y1 x4 x5 x6 x7 hl' hy)
    · by_cases g : sd_b r j
      · show vp_nar .byte (x4 j) = A j
        rw [(hb j hj g).2.1]
        exact sd_nar hc j hj
      · exact absurd z (hnb j hj g).2
    · by_cases g : sd_b r j
      · exact absurd (hb j hj g).2.2 z
      · exact (hnb j hj g).1
  · exact sd_res1 (m := 1) (by rfl) (by omega) (by omega) hn hp ho hk hl ((hA p hp).trans e1) e2 e3 h7 h8 (fun z => absurd z (by omega)) (fun l' q' ov' x5 x6 x7 hl' => H l' q' ov' a1 a4 x5 x6 x7 hl' hA)
theorem sd_r24 {post : Int32 → St1 → Prop} {x : Int32} {A : Nat → Int32} (hc : sd_C 10 n A a2 a3)
    (H : ∀ r d l q ov x1 x4 x5 x6 x7, ¬ r = 0 → d ≤ 150 → (am = 1 → d ≤ 1) → l ≤ 6 → (∀ j, j < n → x1 j = A j) → sd_J n A bk am ap ad d l q ov r → post r (0, nI n, nI l, q, ov, ct + nI d, bk, r, am, ap, ad, x1, a2, a3, x4, x5, x6, x7)) :
    ∀ f d i l q ov r x1 x4 x5 x6 x7, d ≤ 150 → i ≤ d → 152 ≤ f + d → (am = 1 → d ≤ 1) → l ≤ 6 → (∀ j, j < n → x1 j = A j) → sd_J n A bk am ap ad d l q ov r →
      wX_run_24 post x f (nI d) r (nI i) 0 (nI n) (nI l) q ov (ct + nI d) bk wy am ap ad x1 a2 a3 x4 x5 x6 x7 := by
  intro f
  induction f with
  | zero => intro d i l q ov r x1 x4 x5 x6 x7 h1 h2 h3; exact absurd h3 (by omega)
  | succ f ih =>
    intro d i l q ov r x1 x4 x5 x6 x7 hd hi hf ham hl hA hJ
    have hn := hc.1
    by_cases hr : r = 0
    · subst hr
      obtain ⟨hd', hov, hgo, hna⟩ := sd_J0 hJ
      subst hov
      have hd0 : am = 1 → d = 0 := by
        intro e
        rcases Nat.eq_zero_or_pos d with z | z
        · exact z
        · exact absurd (Or.inl e) (hna z)
      refine pk_lt 150 i (fun z => absurd z (by omega)) (fun _ => br_t rfl ?_)
      refine sd_off hc hA hl hgo (fun l' q' ov' y1 y4 y5 y6 y7 hl' hA' => ?_)
      rw [sd_ct]
      refine nm_r (nI_1 d) ?_
      refine sd_judge hc hA' hl' (by omega) (fun r' hJ' => br_c (fun hz => ?_) (fun hnz => nm_r (nI_1 i) (ih (d + 1) (i + 1) l' q' ov' r' y1 y4 y5 y6 y7 (by omega) (by omega) (by omega) (fun e => by have := hd0 e; omega) hl' hA' hJ')))
      subst hz
      obtain ⟨hd2, hov2, hgo2, hna2⟩ := sd_J0 hJ'
      have hn1 : ¬ am = 1 := fun e => hna2 (by omega) (Or.inl e)
      refine sd_plant (A := A) hn hA' (sd_nar hc) (fun pl' z1 z4 hb hnb => ?_)
      have hc11 : sd_C 11 n z1 a2 a3 := by
        refine ⟨hn, fun j hj => ?_⟩
        obtain ⟨o, k, ho, hk, e1, e2, e3⟩ := hc.2 j hj
        by_cases g : sd_b (bk ||| x) j
        · exact ⟨11, k, by omega, hk, (hb j hj g).1, e2, fun _ z => absurd z (by omega)⟩
        · exact ⟨o, k, by omega, hk, (hnb j hj g).1.trans e1, e2, e3⟩
      refine sd_resume (m := 150 - (d + 1)) (pk_sub (a := 150) (b := d + 1) (by omega)) hc11 (by omega) hl' (fun d2 l2 q2 ov2 w5 w6 w7 hd2 hl2 => ?_)
      rw [sd_ct2]
      refine nm_r (nI_add _ _) ?_
      refine sd_lift (A := A) hn (fun j hj z => ?_) (fun j hj z => ?_) (fun w1 hw => ?_)
      · by_cases g : sd_b (bk ||| x) j
        · show vp_nar .byte (z4 j) = A j
          rw [(hb j hj g).2.1]
          exact sd_nar hc j hj
        · exact absurd z (hnb j hj g).2
      · by_cases g : sd_b (bk ||| x) j
        · exact absurd (hb j hj g).2.2 z
        · exact (hnb j hj g).1
      · refine sd_judge hc hw hl2 (by omega) (fun r2 hJ2 => nm_r (nI_1 i) ?_)
        exact ih (d + 1 + d2) (i + 1) l2 q2 ov2 r2 w1 z4 w5 w6 w7 (by omega) (by omega) (by omega) (fun e => absurd e hn1) hl2 hw hJ2
    · have hpost := H r d l q ov x1 x4 x5 x6 x7 hr hd ham hl hA hJ
      exact br_c (fun _ => hpost) (fun _ => br_f hr hpost)
/-- what run answers, and how far it has gone -/
def sd_O (n : Nat) (A : Nat → Int32) (bk am ap ad : Int32) (l : Nat) (q ct : Int32) (l' : Nat) (q' ct' r : Int32) : Prop :=
  ¬ r = 0 ∧ (3 < r ∨ (sd_go n A l q ∧ ∃ d : Nat, 1 ≤ d ∧ d ≤ 150 ∧ ct' = ct + nI d ∧ ((r = 1 ∧ sd_aim am ap ad q' (nI l') ∧ (am = 1 → d = 1)) ∨ (r = 2 ∧ ∃ p, p < n ∧ q' = nI p ∧ sd_b bk p) ∨ r = 3)))
theorem sd_run {post : Int32 → St1 → Prop} {x : Int32} {l : Nat} (hc : sd_C 10 n a1 a2 a3) (hl : l ≤ 6)
    (H : ∀ r ct' l' q' ov' x1 x4 x5 x6 x7, l' ≤ 6 → (∀ j, j < n → x1 j = a1 j) → sd_O n a1 bk am ap ad l q ct l' q' ct' r → post r (0, nI n, nI l', q', ov', ct', bk, r, am, ap, ad, x1, a2, a3, x4, x5, x6, x7)) :
    wpX_run post (0, nI n, nI l, q, ov, ct, bk, wy, am, ap, ad, a1, a2, a3, a4, a5, a6, a7) x := by
  refine br_c (fun hw => sd_judge (d := 0) hc (fun _ _ => rfl) hl (by omega) (fun r hJ => ?_)) (fun hw => H wy ct l q ov a1 a4 a5 a6 a7 hl (fun _ _ => rfl) ⟨fun e => hw (by rw [e]; decide), Or.inl (sd_ge4 hw)⟩)
  by_cases hr : r = 0
  · subst hr
    have hgo := (sd_J0 hJ).2.2.1
    have hO : ∀ r' d l' q' ov', ¬ r' = 0 → d ≤ 150 → (am = 1 → d ≤ 1) → sd_J n a1 bk am ap ad d l' q' ov' r' → sd_O n a1 bk am ap ad l q ct l' q' (ct + nI d) r' := by
      intro r' d l' q' ov' hr' hd ham hJ'
      refine ⟨hr', ?_⟩
      rcases hJ' with h | h | h | ⟨h, h', h''⟩ | ⟨h, h', h''⟩ | ⟨h, h'⟩ | ⟨h, _⟩
      · subst h; exact Or.inl (by decide)
      · subst h; exact Or.inl (by decide)
      · subst h; exact Or.inl (by decide)
      · exact Or.inr ⟨hgo, d, h', hd, rfl, Or.inl ⟨h, h'', fun e => by have := ham e; omega⟩⟩
      · exact Or.inr ⟨hgo, d, h', hd, rfl, Or.inr (Or.inl ⟨h, h''⟩)⟩
      · exact Or.inr ⟨hgo, d, by omega, hd, rfl, Or.inr (Or.inr h)⟩
      · exact absurd h hr'
    have h := sd_r24 (x := x) (wy := wy) (ct := ct) (post := post) hc (fun r' d l' q' ov' x1 x4 x5 x6 x7 hr' hd ham hl' hA hJ' => H r' (ct + nI d) l' q' ov' x1 x4 x5 x6 x7 hl' hA (hO r' d l' q' ov' hr' hd ham hJ')) 152 0 0 l q ov 0 a1 a4 a5 a6 a7 (by omega) (by omega) (by omega) (fun _ => by omega) hl (fun _ _ => rfl) hJ
    rw [nI_0, Int32.add_zero] at h
    exact ⟨152, h⟩
  · have h3 : 3 < r := by
      rcases hJ with h | h | h | ⟨_, h, _⟩ | ⟨_, h, _⟩ | ⟨_, h⟩ | ⟨h, _⟩
      · subst h; decide
      · subst h; decide
      · subst h; decide
      · exact absurd h (by omega)
      · exact absurd h (by omega)
      · exact absurd h (by omega)
      · exact absurd h hr
    have hpost := H r ct l q ov a1 a4 a5 a6 a7 hl (fun _ _ => rfl) ⟨hr, Or.inl h3⟩
    exact ⟨1, br_c (fun _ => hpost) (fun _ => br_f hr hpost)⟩
end
end
section
/-! the commands -/
section
variable {pl sz lv q ov ct bk wy am ap ad c : Int32} {a1 a2 a3 a4 a5 a6 a7 : Nat → Int32} {n : Nat}
/-- the target stands on a call that it can carry out -/
def sd_call (n : Nat) (A : Nat → Int32) (l : Nat) (q : Int32) : Prop := ∃ p, p < n ∧ q = nI p ∧ A p = nI 7 ∧ l < 6
/-- what a command answers; D: what holds when it answers DONE -/
def sd_Q (n : Nat) (bk ct ct' : Int32) (l' : Nat) (q' r : Int32) (D : Nat → Nat → Int32 → Prop) : Prop :=
  ¬ r = 0 ∧ (3 < r ∨ ∃ d : Nat, 1 ≤ d ∧ d ≤ 150 ∧ ct' = ct + nI d ∧ ((r = 1 ∧ D d l' q') ∨ (r = 2 ∧ ∃ p, p < n ∧ q' = nI p ∧ sd_b bk p) ∨ r = 3))
theorem sd_OQ {A : Nat → Int32} {l l' : Nat} {ct' q' r : Int32} {D : Nat → Nat → Int32 → Prop} (h : sd_O n A bk am ap ad l q ct l' q' ct' r) (hD : ∀ d, sd_go n A l q → sd_aim am ap ad q' (nI l') → (am = 1 → d = 1) → D d l' q') : sd_Q n bk ct ct' l' q' r D := by
  obtain ⟨h0, h | ⟨hg, d, h1, h2, h3, h4⟩⟩ := h
  · exact ⟨h0, Or.inl h⟩
  · refine ⟨h0, Or.inr ⟨d, h1, h2, h3, ?_⟩⟩
    rcases h4 with ⟨h4, h5, h6⟩ | h4
    · exact Or.inl ⟨h4, hD d hg h5 h6⟩
    · exact Or.inr h4
theorem sd_Qw {l' : Nat} {ct' q' r : Int32} {D D' : Nat → Nat → Int32 → Prop} (h : sd_Q n bk ct ct' l' q' r D) (hD : ∀ d, D d l' q' → D' d l' q') : sd_Q n bk ct ct' l' q' r D' := by
  obtain ⟨h0, h | ⟨d, h1, h2, h3, h4⟩⟩ := h
  · exact ⟨h0, Or.inl h⟩
  · refine ⟨h0, Or.inr ⟨d, h1, h2, h3, ?_⟩⟩
    rcases h4 with ⟨h4, h5⟩ | h4
    · exact Or.inl ⟨h4, hD d h5⟩
    · exact Or.inr h4
/-- the state that a command leaves, whatever the aim -/
def sd_P (n : Nat) (bk ct : Int32) (a1 a2 a3 : Nat → Int32) (D : Nat → Nat → Int32 → Prop) (post : Int32 → St1 → Prop) : Prop :=
  ∀ r ct' l' q' ov' am' ap' ad' x1 x4 x5 x6 x7, l' ≤ 6 → (∀ j, j < n → x1 j = a1 j) → sd_Q n bk ct ct' l' q' r D → post r (0, nI n, nI l', q', ov', ct', bk, r, am', ap', ad', x1, a2, a3, x4, x5, x6, x7)
theorem sd_step {post : Int32 → St1 → Prop} {l : Nat} (hc : sd_C 10 n a1 a2 a3) (hl : l ≤ 6) (H : sd_P n bk ct a1 a2 a3 (fun d _ _ => d = 1) post) :
    wpX_step post (0, nI n, nI l, q, ov, ct, bk, wy, am, ap, ad, a1, a2, a3, a4, a5, a6, a7) := by
  unfold wpX_step
  dsimp only
  exact sd_run hc hl (fun r ct' l' q' ov' x1 x4 x5 x6 x7 h1 h2 h3 => H r ct' l' q' ov' _ _ _ x1 x4 x5 x6 x7 h1 h2 (sd_OQ h3 (fun d _ _ h => h rfl)))
theorem sd_goes {post : Int32 → St1 → Prop} {l : Nat} (hc : sd_C 10 n a1 a2 a3) (hl : l ≤ 6) (H : sd_P n bk ct a1 a2 a3 (fun _ _ _ => True) post) :
    wpX_go post (0, nI n, nI l, q, ov, ct, bk, wy, am, ap, ad, a1, a2, a3, a4, a5, a6, a7) := by
  unfold wpX_go
  dsimp only
  exact sd_run hc hl (fun r ct' l' q' ov' x1 x4 x5 x6 x7 h1 h2 h3 => H r ct' l' q' ov' _ _ _ x1 x4 x5 x6 x7 h1 h2 (sd_OQ h3 (fun d _ _ h => trivial)))
theorem sd_goTo {post : Int32 → St1 → Prop} {l : Nat} (hc : sd_C 10 n a1 a2 a3) (hl : l ≤ 6) (H : sd_P n bk ct a1 a2 a3 (fun _ _ q' => q' = c) post) :
    wpX_goTo post (0, nI n, nI l, q, ov, ct, bk, wy, am, ap, ad, a1, a2, a3, a4, a5, a6, a7) c := by
  unfold wpX_goTo
  dsimp only
  refine sd_bit hc.1 (fun r0 _ => sd_run hc hl (fun r ct' l' q' ov' x1 x4 x5 x6 x7 h1 h2 h3 => H r ct' l' q' ov' _ _ _ x1 x4 x5 x6 x7 h1 h2 (sd_OQ h3 (fun d _ ha _ => ?_))))
  rcases ha with h | ⟨h, _⟩ | ⟨h, _⟩ | ⟨_, h⟩
  · exact absurd h (by decide)
  · exact absurd h (by decide)
  · exact absurd h (by decide)
  · exact h
theorem sd_out {post : Int32 → St1 → Prop} {l : Nat} (hc : sd_C 10 n a1 a2 a3) (hl : l ≤ 6) (H : sd_P n bk ct a1 a2 a3 (fun _ _ _ => True) post) :
    wpX_stepOut post (0, nI n, nI l, q, ov, ct, bk, wy, am, ap, ad, a1, a2, a3, a4, a5, a6, a7) := by
  have h39 : ∀ z, wX_stepOut_39 post z 0 (nI n) (nI l) q ov ct bk wy 4 ap (nI l) a1 a2 a3 a4 a5 a6 a7 := by
    intro z
    unfold wX_stepOut_39
    exact sd_run hc hl (fun r ct' l' q' ov' x1 x4 x5 x6 x7 h1 h2 h3 => H r ct' l' q' ov' _ _ _ x1 x4 x5 x6 x7 h1 h2 (sd_OQ h3 (fun d _ _ h => trivial)))
  refine pk_le l 0 (fun _ => h39 0) (fun z => ?_)
  rw [sd_m1 z]
  exact ⟨pk_in (l - 1) 6 (by omega), sd_bit hc.1 (fun r _ => h39 r)⟩
theorem sd_over {post : Int32 → St1 → Prop} {l : Nat} (hc : sd_C 10 n a1 a2 a3) (hl : l ≤ 6)
    (H : sd_P n bk ct a1 a2 a3 (fun d l' q' => (sd_call n a1 l q → l' = l ∧ q' = q + 1) ∧ (¬ sd_call n a1 l q → d = 1)) post) :
    wpX_stepOver post (0, nI n, nI l, q, ov, ct, bk, wy, am, ap, ad, a1, a2, a3, a4, a5, a6, a7) := by
  have hn := hc.1
  have h29 : (∀ p, p < n → q = nI p → ¬ a1 p = nI 7) → wX_stepOver_29 post 0 (nI n) (nI l) q ov ct bk wy am ap ad a1 a2 a3 a4 a5 a6 a7 := by
    intro hno
    unfold wX_stepOver_29 wX_stepOver_30
    refine br_t rfl ?_
    unfold wX_stepOver_41
    refine nm_e (br_t rfl ?_)
    unfold wX_stepOver_80
    refine sd_run hc hl (fun r ct' l' q' ov' x1 x4 x5 x6 x7 h1 h2 h3 => H r ct' l' q' ov' _ _ _ x1 x4 x5 x6 x7 h1 h2 (sd_OQ h3 (fun d _ _ h => ⟨fun g => ?_, fun _ => h rfl⟩)))
    obtain ⟨p, g1, g2, g3, g4⟩ := g
    exact absurd g3 (hno p g1 g2)
  have h30 : ∀ p, p < n → q = nI p → a1 p = nI 7 → wX_stepOver_30 post 1 0 (nI n) (nI l) q ov ct bk wy am ap ad a1 a2 a3 a4 a5 a6 a7 := by
    intro p hp eq e7
    unfold wX_stepOver_30
    refine br_f (by decide) ?_
    unfold wX_stepOver_41
    refine nm_e (br_f (by decide) (sd_bit hn (fun r0 _ => ?_)))
    unfold wX_stepOver_80
    refine sd_run hc hl (fun r ct' l' q' ov' x1 x4 x5 x6 x7 h1 h2 h3 => H r ct' l' q' ov' _ _ _ x1 x4 x5 x6 x7 h1 h2 (sd_OQ h3 (fun d hg ha _ => ⟨fun _ => ?_, fun g => ?_⟩)))
    · rcases ha with h | ⟨h, _⟩ | ⟨_, h, h'⟩ | ⟨h, _⟩
      · exact absurd h (by decide)
      · exact absurd h (by decide)
      · exact ⟨(nI_eq (by omega) (by omega)).mp h', h⟩
      · exact absurd h (by decide)
    · obtain ⟨p', o, hp', ho, eq', e', h7, _⟩ := hg
      have ep : p' = p := (nI_eq (by omega) (by omega)).mp (eq'.symm.trans eq)
      subst ep
      have eo : o = 7 := (nI_eq (by omega) (by omega)).mp (e'.symm.trans e7)
      exact absurd ⟨p', hp, eq, e7, h7 eo⟩ g
  unfold wpX_stepOver
  dsimp only
  refine sd_ins hn (fun p hp e => br_f (by decide) ?_) (fun h => br_t rfl (h29 (fun p hp e => absurd e (h p hp))))
  have ec : a1 q.toNatClampNeg = a1 p := by rw [e, nI_clamp (by omega)]
  refine ⟨pk_in p 20 (by omega) e, ?_⟩
  rw [ec]
  refine br_c (fun z => h30 p hp e z) (fun z => h29 (fun p' hp' e' g => z ?_))
  have ep : p' = p := (nI_eq (by omega) (by omega)).mp (e'.symm.trans e)
  rw [← ep]
  exact g
/-- what DONE says of the command w with the word y -/
def sd_D (n : Nat) (A : Nat → Int32) (l : Nat) (q : Int32) (w : Nat) (y : Int32) (d l' : Nat) (q' : Int32) : Prop :=
  (w < 5 → d = 1) ∧ (12 ≤ w → q' = y &&& 15) ∧ (5 ≤ w → w < 8 → (sd_call n A l q → l' = l ∧ q' = q + 1) ∧ (¬ sd_call n A l q → d = 1))
theorem sd_Pw {post : Int32 → St1 → Prop} {D D' : Nat → Nat → Int32 → Prop} (H : sd_P n bk ct a1 a2 a3 D' post) (hD : ∀ d l' q', D d l' q' → D' d l' q') : sd_P n bk ct a1 a2 a3 D post :=
  fun r ct' l' q' ov' am' ap' ad' x1 x4 x5 x6 x7 h1 h2 h3 => H r ct' l' q' ov' am' ap' ad' x1 x4 x5 x6 x7 h1 h2 (sd_Qw h3 (fun d h => hD d l' q' h))
theorem sd_command {post : Int32 → St1 → Prop} {l w : Nat} {y : Int32} (hw : w ≤ 13) (hc : sd_C 10 n a1 a2 a3) (hl : l ≤ 6) (H : sd_P n bk ct a1 a2 a3 (sd_D n a1 l q w y) post) :
    wpL_command post (0, nI n, nI l, q, ov, ct, bk, wy, am, ap, ad, a1, a2, a3, a4, a5, a6, a7) (nI w) y := by
  unfold wpL_command
  dsimp only
  refine pk_le 5 w (fun z5 => pk_le 8 w (fun z8 => pk_le 10 w (fun z10 => pk_le 12 w (fun z12 => ?_) (fun z12 => ?_)) (fun z10 => ?_)) (fun z8 => ?_)) (fun z5 => ?_)
  · exact sd_goTo hc hl (sd_Pw (D' := sd_D n a1 l q w y) H (fun d l' q' h => ⟨fun g => absurd g (by omega), fun _ => h, fun _ g => absurd g (by omega)⟩))
  · exact sd_goes hc hl (sd_Pw (D' := sd_D n a1 l q w y) H (fun d l' q' h => ⟨fun g => absurd g (by omega), fun g => absurd g (by omega), fun _ g => absurd g (by omega)⟩))
  · exact sd_out hc hl (sd_Pw (D' := sd_D n a1 l q w y) H (fun d l' q' h => ⟨fun g => absurd g (by omega), fun g => absurd g (by omega), fun _ g => absurd g (by omega)⟩))
  · exact sd_over hc hl (sd_Pw (D' := sd_D n a1 l q w y) H (fun d l' q' h => ⟨fun g => absurd g (by omega), fun g => absurd g (by omega), fun _ _ => h⟩))
  · exact sd_step hc hl (sd_Pw (D' := sd_D n a1 l q w y) H (fun d l' q' h => ⟨fun _ => h, fun g => absurd g (by omega), fun g _ => absurd g (by omega)⟩))
end
end
section
/-! the law's check of one command -/
section
variable {pl sz lv q ov ct bk wy am ap ad c : Int32} {a1 a2 a3 a4 a5 a6 a7 : Nat → Int32} {n : Nat}
theorem sd_steps {post : Int32 → Prop} (h : post ct) : wpX_steps post (pl, sz, lv, q, ov, ct, bk, wy, am, ap, ad, a1, a2, a3, a4, a5, a6, a7) := h
theorem sd_depth {post : Int32 → Prop} (h : post lv) : wpX_depth post (pl, sz, lv, q, ov, ct, bk, wy, am, ap, ad, a1, a2, a3, a4, a5, a6, a7) := h
theorem sd_pos {post : Int32 → Prop} (h : post q) : wpX_position post (pl, sz, lv, q, ov, ct, bk, wy, am, ap, ad, a1, a2, a3, a4, a5, a6, a7) := h
theorem sd_reason {post : Int32 → Prop} (h : post wy) : wpX_reason post (pl, sz, lv, q, ov, ct, bk, wy, am, ap, ad, a1, a2, a3, a4, a5, a6, a7) := h
theorem sd_breaks {post : Int32 → Prop} (h : post bk) : wpX_breakpoints post (pl, sz, lv, q, ov, ct, bk, wy, am, ap, ad, a1, a2, a3, a4, a5, a6, a7) := h
theorem sd_sub (x y : Int32) : x + y - x = y := by rw [Int32.add_comm, Int32.add_sub_cancel]
theorem sd_h213 {post : Int32 → St1 → Prop} {A : Nat → Int32} {w l m d l' : Nat} {y qq z0 v : Int32} (hw : w ≤ 13) (hd1 : 1 ≤ d) (hd : d ≤ 150)
    (hz : (sd_call n A l qq → ¬ z0 = 0) ∧ (¬ sd_call n A l qq → z0 = 0)) (hv : v = 0 ∨ (v = 1 ∧ 5 ≤ w ∧ w < 8)) (hD : sd_D n A l qq w y d l' q)
    (hp : post 1 (0, nI m, nI l', q, ov, ct, bk, wy, am, ap, ad, a1, a2, a3, a4, a5, a6, a7)) :
    wL_holds_213 post (nI w) y (nI l) qq z0 (nI d) q v 0 (nI m) (nI l') q ov ct bk wy am ap ad a1 a2 a3 a4 a5 a6 a7 := by
  have h241 : wL_holds_241 post (nI l) qq z0 (nI d) q v 0 (nI m) (nI l') q ov ct bk wy am ap ad a1 a2 a3 a4 a5 a6 a7 := by
    rcases hv with hv | ⟨hv, h5, h8⟩
    · exact br_t hv hp
    · refine br_f (by rw [hv]; decide) ?_
      obtain ⟨g1, g2⟩ := hD.2.2 h5 h8
      by_cases hcall : sd_call n A l qq
      · obtain ⟨e1, e2⟩ := g1 hcall
        exact br_f (hz.1 hcall) (sd_depth (br_t (by rw [e1]) (br_t e2 hp)))
      · exact br_t (hz.2 hcall) (br_t (by rw [g2 hcall]; rfl) hp)
  have h226 : wL_holds_226 post (nI w) y (nI l) qq z0 (nI d) q v 0 (nI m) (nI l') q ov ct bk wy am ap ad a1 a2 a3 a4 a5 a6 a7 :=
    pk_lt w 12 (fun _ => h241) (fun z => br_t (hD.2.1 z) h241)
  exact pk_le 5 w (fun _ => h226) (fun z => br_t (by rw [hD.1 z]; rfl) h226)
theorem sd_h152 {post : Int32 → St1 → Prop} {A : Nat → Int32} {w l d l' : Nat} {y qq z0 r : Int32} (hn : n ≤ 20) (hw : w ≤ 13) (hd1 : 1 ≤ d) (hd : d ≤ 150)
    (hz : (sd_call n A l qq → ¬ z0 = 0) ∧ (¬ sd_call n A l qq → z0 = 0)) (hr : (r = 1 ∧ sd_D n A l qq w y d l' q) ∨ (r = 2 ∧ ∃ p, p < n ∧ q = nI p ∧ sd_b bk p) ∨ r = 3)
    (hp : post 1 (0, nI n, nI l', q, ov, ct, bk, wy, am, ap, ad, a1, a2, a3, a4, a5, a6, a7)) :
    wL_holds_152 post (nI w) y (nI l) qq z0 r (nI d) q 0 (nI n) (nI l') q ov ct bk wy am ap ad a1 a2 a3 a4 a5 a6 a7 := by
  rcases hr with ⟨hr, hD⟩ | ⟨hr, p, hpn, eq, hb⟩ | hr
  · subst hr
    refine br_f (by decide) (br_t rfl ?_)
    exact pk_lt w 5 (fun _ => sd_h213 hw hd1 hd hz (Or.inl rfl) hD hp) (fun z5 => pk_le 8 w (fun _ => sd_h213 hw hd1 hd hz (Or.inl rfl) hD hp) (fun z8 => sd_h213 hw hd1 hd hz (Or.inr ⟨rfl, z5, z8⟩) hD hp))
  · subst hr
    subst eq
    exact br_t rfl (br_f (nI_pos (by omega)) (br_f (nI_ge (b := 20) (by omega) (by decide)) (sd_breaks (br_t (sd_bv hb) hp))))
  · subst hr
    exact br_f (by decide) (br_f (by decide) hp)
theorem sd_h52 {post : Int32 → St1 → Prop} {w l : Nat} {y z0 : Int32} (hw : w ≤ 13) (hc : sd_C 10 n a1 a2 a3) (hl : l ≤ 6) (hz : (sd_call n a1 l q → ¬ z0 = 0) ∧ (¬ sd_call n a1 l q → z0 = 0))
    (H : ∀ ct' l' q' ov' wy' am' ap' ad' x1 x4 x5 x6 x7, l' ≤ 6 → (∀ j, j < n → x1 j = a1 j) → post 1 (0, nI n, nI l', q', ov', ct', bk, wy', am', ap', ad', x1, a2, a3, x4, x5, x6, x7)) :
    wL_holds_52 post (nI w) y ct (nI l) q z0 0 (nI n) (nI l) q ov ct bk wy am ap ad a1 a2 a3 a4 a5 a6 a7 := by
  have hn := hc.1
  unfold wL_holds_52
  refine sd_codes hn (sd_codes hn (sd_command hw hc hl (fun r ct' l' q' ov' am' ap' ad' x1 x4 x5 x6 x7 hl' hA hQ => ?_)))
  have hp := H ct' l' q' ov' r am' ap' ad' x1 x4 x5 x6 x7 hl' hA
  have hcd := sd_cd_eq (B := a2) hn hA
  obtain ⟨h0, hQ⟩ := hQ
  refine sd_steps (nm_e (sd_pos (sd_codes hn (br_t (by rw [hcd]) (sd_codes hn (br_t (by rw [hcd]) (br_f h0 (sd_reason (br_t rfl ?_)))))))))
  by_cases h3 : 3 < r
  · refine br_t h3 (br_f (fun e => ?_) (br_f (fun e => ?_) hp))
    · rw [e] at h3
      exact absurd h3 (by decide)
    · rw [e] at h3
      exact absurd h3 (by decide)
  · rcases hQ with g | ⟨d, h1, h2, e, hr⟩
    · exact absurd g h3
    · rw [e, sd_sub]
      rw [e] at hp
      have h152 := sd_h152 (post := post) hn hw h1 h2 hz hr hp
      exact br_f h3 (br_f (nI_nlt (b := 1) h1 (by omega)) (br_t (nI_le (b := 150) h2 (by decide)) h152))
theorem sd_k7 : ∀ k, k < 4 → ((nI 7 + 16 * nI k) &&& 15 = 7) ∧ ¬ (nI 7 + 16 * nI k) < 0 := by decide +kernel
theorem sd_k15 : ∀ o, o < 11 → ∀ k, k < 4 → (nI o + 16 * nI k) &&& 15 = nI o := by decide +kernel
theorem sd_holds {post : Int32 → St1 → Prop} {w l : Nat} {y : Int32} (hw : w ≤ 13) (hc : sd_C 10 n a1 a2 a3) (hl : l ≤ 6)
    (H : ∀ ct' l' q' ov' wy' am' ap' ad' x1 x4 x5 x6 x7, l' ≤ 6 → (∀ j, j < n → x1 j = a1 j) → post 1 (0, nI n, nI l', q', ov', ct', bk, wy', am', ap', ad', x1, a2, a3, x4, x5, x6, x7)) :
    wpL_holds post (0, nI n, nI l, q, ov, ct, bk, wy, am, ap, ad, a1, a2, a3, a4, a5, a6, a7) (nI w) y := by
  have hn := hc.1
  have hy : sd_call n a1 l q → (sd_cd n a1 a2 q &&& 15) = 7 ∧ ¬ sd_cd n a1 a2 q < 0 ∧ l < 6 := by
    rintro ⟨p, hp, eq, e7, h6⟩
    obtain ⟨o, k, ho, hk, e1, e2, e3⟩ := hc.2 p hp
    rw [eq, sd_cd_in hn hp, e7, e2]
    exact ⟨(sd_k7 k (by omega)).1, (sd_k7 k (by omega)).2, h6⟩
  have hx : (sd_cd n a1 a2 q &&& 15) = 7 → l < 6 → sd_call n a1 l q := by
    intro h h6
    by_cases g : ∃ p, p < n ∧ q = nI p
    · obtain ⟨p, hp, eq⟩ := g
      obtain ⟨o, k, ho, hk, e1, e2, e3⟩ := hc.2 p hp
      rw [eq, sd_cd_in hn hp, e1, e2, sd_k15 o (by omega) k (by omega)] at h
      exact ⟨p, hp, eq, e1.trans h, h6⟩
    · rw [sd_cd_out hn (fun p hp e => g ⟨p, hp, e⟩)] at h
      exact absurd h (by decide)
  have h51 : ¬ sd_call n a1 l q → wL_holds_51 post (nI w) y ct (nI l) q 0 (nI n) (nI l) q ov ct bk wy am ap ad a1 a2 a3 a4 a5 a6 a7 :=
    fun h => sd_h52 (z0 := 0) hw hc hl ⟨fun g => absurd g h, fun _ => rfl⟩ H
  unfold wpL_holds
  dsimp only
  refine sd_steps (sd_depth (sd_pos (sd_code hn (br_c (fun h15 => sd_code hn (br_c (fun hneg => h51 (fun g => (hy g).2.1 hneg)) (fun hpos => ?_))) (fun h15 => h51 (fun g => h15 (hy g).1))))))
  refine pk_le 6 l (fun z => h51 (fun g => absurd (hy g).2.2 (by omega))) (fun z => ?_)
  exact sd_h52 (z0 := 1) hw hc hl ⟨fun _ => by decide, fun g => absurd (hx h15 z) g⟩ H
end
end
section
/-! emit, reset, breakAt, cell -/
section
variable {pl sz lv q ov ct bk wy am ap ad c : Int32} {a1 a2 a3 a4 a5 a6 a7 : Nat → Int32} {n : Nat}
theorem sd_emitX {post : Int32 → St1 → Prop} {o k : Nat} (hc : sd_C 10 n a1 a2 a3) (ho : o ≤ 10) (hk : k ≤ 3) (hb : 1 ≤ o → o ≤ 4 → ∃ b : Nat, b ≤ 3 ∧ c = nI b)
    (H : ∀ r n' x1 x2 x3, sd_C 10 n' x1 x2 x3 → post r (pl, nI n', lv, q, ov, ct, bk, wy, am, ap, ad, x1, x2, x3, a4, a5, a6, a7)) :
    wpX_emit post (pl, nI n, lv, q, ov, ct, bk, wy, am, ap, ad, a1, a2, a3, a4, a5, a6, a7) (nI o) (nI k) c := by
  have hn := hc.1
  have keep : ∀ r, post r (pl, nI n, lv, q, ov, ct, bk, wy, am, ap, ad, a1, a2, a3, a4, a5, a6, a7) := fun r => H r n a1 a2 a3 hc
  unfold wpX_emit
  dsimp only
  refine pk_lt n 20 (fun hlt => ?_) (fun _ => keep _)
  have cn : (nI n).toNatClampNeg = n := nI_clamp (by omega)
  have hI : vp_in (nI n) 20 := pk_in n 20 hlt
  have h67 : wX_emit_67 post (nI o) (nI k) c pl (nI n) lv q ov ct bk wy am ap ad a1 a2 a3 a4 a5 a6 a7 :=
    ⟨hI, nm_r (e' := upd a1 n (nI o)) (by rw [cn, sd_nb' (by omega)]) ⟨hI, nm_r (e' := upd a2 n (nI k)) (by rw [cn, sd_nb' (by omega)]) ⟨hI, nm_r (e' := upd a3 n c) (by rw [cn]) (nm_r (nI_1 n) (H _ (n + 1) _ _ _ (sd_Cadd hc hlt ho hk hb)))⟩⟩⟩
  have h39 : ∀ z, wX_emit_39 post (nI o) (nI k) c z pl (nI n) lv q ov ct bk wy am ap ad a1 a2 a3 a4 a5 a6 a7 :=
    fun z => br_c (fun _ => keep _) (fun _ => br_c (fun _ => keep _) (fun _ => br_c (fun _ => h67) (fun _ => br_c (fun _ => keep _) (fun _ => br_c (fun _ => h67) (fun _ => keep _)))))
  exact br_c (fun _ => keep _) (fun _ => br_c (fun _ => br_c (fun _ => h39 0) (fun _ => br_c (fun _ => h39 0) (fun _ => h39 1))) (fun _ => keep _))
theorem sd_emit {post : St1 → Prop} {x y : Int32} (hc : sd_C 10 n a1 a2 a3)
    (H : ∀ n' x1 x2 x3, sd_C 10 n' x1 x2 x3 → post (pl, nI n', lv, q, ov, ct, bk, wy, am, ap, ad, x1, x2, x3, a4, a5, a6, a7)) :
    wpL_emit post (pl, nI n, lv, q, ov, ct, bk, wy, am, ap, ad, a1, a2, a3, a4, a5, a6, a7) x y := by
  obtain ⟨j, hj, ej⟩ := pk_andE x (m := 255) 8 (by decide)
  obtain ⟨k, hk, ek⟩ := pk_andE (x >>> ((8 : Int32) &&& 31)) (m := 3) 2 (by decide)
  have ho : j % 12 < 12 := Nat.mod_lt _ (by omega)
  have er : (x &&& 255) - (x &&& 255) / 12 * 12 = nI (j % 12) := by
    rw [ej]
    exact pk_rem (d := 12) (by omega) (by omega) (by omega)
  have h55 : ∀ c : Int32, (1 ≤ j % 12 → j % 12 ≤ 4 → ∃ b : Nat, b ≤ 3 ∧ c = nI b) → wL_emit_55 post (nI (j % 12)) (nI k) c pl (nI n) lv q ov ct bk wy am ap ad a1 a2 a3 a4 a5 a6 a7 := by
    intro c hb
    unfold wL_emit_55
    refine pk_le (j % 12) 10 (fun z => ?_) (fun z => ?_)
    · unfold wL_emit_69
      exact sd_emitX hc z (by omega) hb (fun r n' x1 x2 x3 h => H n' x1 x2 x3 h)
    · unfold wL_emit_69
      exact sd_emitX (o := 0) hc (by omega) (by omega) (fun t => absurd t (by omega)) (fun r n' x1 x2 x3 h => H n' x1 x2 x3 h)
  have h33 : (j % 12 < 1 ∨ 4 < j % 12) → wL_emit_33 post y (nI (j % 12)) (nI k) pl (nI n) lv q ov ct bk wy am ap ad a1 a2 a3 a4 a5 a6 a7 := by
    intro h
    have hv : ∀ c : Int32, (1 ≤ j % 12 → j % 12 ≤ 4 → ∃ b : Nat, b ≤ 3 ∧ c = nI b) := fun c g g' => absurd h (by omega)
    exact br_c (fun _ => h55 _ (hv _)) (fun _ => br_c (fun _ => h55 _ (hv _)) (fun _ => h55 _ (hv _)))
  unfold wpL_emit
  dsimp only
  refine ⟨by decide, nm_r er (nm_r ek ?_)⟩
  refine pk_lt (j % 12) 1 (fun z => h33 (Or.inl z)) (fun z1 => pk_lt 4 (j % 12) (fun z => h33 (Or.inr z)) (fun z4 => h55 _ (fun _ _ => ?_)))
  obtain ⟨b, hb, eb⟩ := pk_andE y (m := 3) 2 (by decide)
  exact ⟨b, by omega, eb⟩
theorem sd_reset {post : St1 → Prop} (H : ∀ x5 x6, post (pl, sz, nI 0, 0, 0, 0, bk, 0, am, ap, ad, a1, a2, a3, a4, x5, x6, a7)) :
    wpX_reset post (pl, sz, lv, q, ov, ct, bk, wy, am, ap, ad, a1, a2, a3, a4, a5, a6, a7) := by
  refine pk_loop (fun m i (s : Nat → Int32) => wX_reset_2 post pl sz lv q ov ct bk wy am ap ad m (nI i) a1 a2 a3 a4 s a6 a7) (fun _ _ => True) 4 0 a5 (by omega) trivial ?_ ?_
  · intro m s _
    refine pk_le 4 4 (fun _ => ?_) (fun z => absurd z (by omega))
    refine pk_loop (fun m i (t : Nat → Int32) => wX_reset_22 post pl sz lv q ov ct bk wy am ap ad m (nI i) a1 a2 a3 a4 s t a7) (fun _ _ => True) 8 0 a6 (by omega) trivial ?_ ?_
    · intro m t _
      exact pk_le 8 8 (fun _ => H s t) (fun z => absurd z (by omega))
    · intro m i t hi _ hw
      exact pk_le 8 i (fun z => absurd z (by omega)) (fun _ => ⟨pk_in i 8 hi, nm_e (nm_r (nI_1 i) (hw _ trivial))⟩)
  · intro m i s hi _ hw
    exact pk_le 4 i (fun z => absurd z (by omega)) (fun _ => ⟨pk_in i 4 hi, nm_e (nm_r (nI_1 i) (hw _ trivial))⟩)
theorem sd_break {post : Int32 → St1 → Prop} {x y : Int32} (H : ∀ r b, post r (pl, sz, lv, q, ov, ct, b, wy, am, ap, ad, a1, a2, a3, a4, a5, a6, a7)) :
    wpX_breakAt post (pl, sz, lv, q, ov, ct, bk, wy, am, ap, ad, a1, a2, a3, a4, a5, a6, a7) x y :=
  br_c (fun _ => H _ _) (fun _ => br_c (fun _ => br_c (fun _ => nm_e (H _ _)) (fun _ => nm_e (H _ _))) (fun _ => H _ _))
theorem sd_cell {post : Int32 → Prop} {L i : Nat} {xs : Nat → Int32} {c : Int32} (hL : L ≤ 260) (hi : i ≤ 300) (hc : c = nI i) (H : ∀ r, post r) : wpL_cell post L xs () c :=
  pk_le L i (fun _ => H _) (fun z => ⟨pk_in i L z hc, H _⟩) (by rfl) hc
end
end
section
/-! the law's two loops, and what is owed -/
theorem sd_l60 {L : Nat} {xs : Nat → Int32} {kc ks : Nat} (hL : L ≤ 260) :
    ∀ f i n l q ov ct bk wy am ap ad a1 a2 a3 a4 a5 a6 a7, i ≤ 300 → 300 < f + i → l ≤ 6 → sd_C 10 n a1 a2 a3 →
      wL_law_60 (fun r => r = 1) L xs kc ks f (nI i) 0 (nI n) (nI l) q ov ct bk wy am ap ad a1 a2 a3 a4 a5 a6 a7 := by
  intro f
  induction f with
  | zero => intro i n l q ov ct bk wy am ap ad a1 a2 a3 a4 a5 a6 a7 h1 h2; exact absurd h2 (by omega)
  | succ f ih =>
    intro i n l q ov ct bk wy am ap ad a1 a2 a3 a4 a5 a6 a7 hi hf hl hc
    refine pk_le L (i + 1) (fun _ => rfl) (fun hlt => ?_) (by rfl) (nI_1 i)
    obtain ⟨w, hw, ew⟩ := pk_andE (xs (nI i).toNatClampNeg) (m := 31) 5 (by decide)
    refine ⟨pk_in i L (by omega), nm_r ew ⟨pk_in (i + 1) L hlt (nI_1 i), nm_e ?_⟩⟩
    have nx : nI i + 2 = nI (i + 2) := nI_add i 2
    refine pk_le 24 w (fun z24 => pk_le 27 w (fun z27 => pk_le 31 w (fun z31 => ?_) (fun z31 => ?_)) (fun z27 => ?_)) (fun z24 => ?_)
    · exact sd_emit hc (fun n' x1 x2 x3 hc' => nm_r nx (ih (i + 2) n' l q ov ct bk wy am ap ad x1 x2 x3 a4 a5 a6 a7 (by omega) (by omega) hl hc'))
    · exact sd_reset (fun x5 x6 => nm_r nx (ih (i + 2) n 0 0 0 0 bk 0 am ap ad a1 a2 a3 a4 x5 x6 a7 (by omega) (by omega) (by omega) hc))
    · have h150 : ∀ z0 z1 : Int32, wL_law_150 (fun r => r = 1) L xs (wL_law_60 (fun r => r = 1) L xs kc ks f) (nI i) z0 z1 kc ks 0 (nI n) (nI l) q ov ct bk wy am ap ad a1 a2 a3 a4 a5 a6 a7 := by
        intro z0 z1
        unfold wL_law_150
        exact sd_break (fun r b => nm_r nx (ih (i + 2) n l q ov ct b wy am ap ad a1 a2 a3 a4 a5 a6 a7 (by omega) (by omega) hl hc))
      exact br_c (fun _ => h150 _ _) (fun _ => h150 _ _)
    · have h114 : ∀ (v : Nat) (y z : Int32), z = nI v → v ≤ 13 → wL_law_114 (fun r => r = 1) L xs (wL_law_60 (fun r => r = 1) L xs kc ks f) (nI i) y z kc ks 0 (nI n) (nI l) q ov ct bk wy am ap ad a1 a2 a3 a4 a5 a6 a7 := by
        intro v y z ez hv
        subst ez
        unfold wL_law_114
        exact sd_holds hv hc hl (fun ct' l' q' ov' wy' am' ap' ad' x1 x4 x5 x6 x7 hl' hA => br_f (by decide) (nm_r nx (ih (i + 2) n l' q' ov' ct' bk wy' am' ap' ad' x1 a2 a3 x4 x5 x6 x7 (by omega) (by omega) hl' (sd_Ceq hc hA))))
      have es : nI w >>> ((1 : Int32) &&& 31) = nI (w / 2 ^ 1) := pk_shrN (by omega) _ 1 (by decide)
      obtain ⟨v, hv, ev⟩ := pk_andE (nI w) (m := 3) 2 (by decide)
      refine pk_le (w / 2 ^ 1) 9 (fun z => h114 _ _ _ es (by omega)) (fun z => h114 (10 + v) _ _ ?_ (by omega)) es
      rw [ev]
      exact nI_add 10 v
theorem i_vc (xs : Nat → Int32) (L : Nat) (hL : L ≤ 260) : wpL_law (fun r => r = 1) L xs := by
  refine ⟨7, 98, by omega, by omega, by omega, by omega, by omega, by omega, by omega, by omega, by omega, by omega, by omega, by omega, by omega, by omega, by omega, by omega, ?_⟩
  refine sd_cell (i := 0) hL (by omega) (by rfl) (fun r => ?_)
  obtain ⟨j, hj, ej⟩ := pk_andE r (m := 15) 4 (by decide)
  refine nm_r (e' := nI (4 + j)) (by rw [ej]; exact nI_add 4 j) ?_
  refine pk_loop (fun m i (s : Nat × (Nat → Int32) × (Nat → Int32) × (Nat → Int32)) => wL_law_21 (fun r => r = 1) L xs (nI (4 + j)) (1 + 7) (18 + 98) m (nI i) 0 (nI s.1) 0 0 0 0 0 0 0 0 0 s.2.1 s.2.2.1 s.2.2.2 (fun _ => 0) (fun _ => 0) (fun _ => 0) (fun _ => 0))
    (fun _ s => sd_C 10 s.1 s.2.1 s.2.2.1 s.2.2.2) (4 + j) 0 (0, (fun _ => 0), (fun _ => 0), (fun _ => 0)) (by omega) sd_C0 ?_ ?_
  · intro m s h
    refine pk_le (4 + j) (4 + j) (fun _ => nm_r (e' := nI (1 + 2 * (4 + j))) ?_ ?_) (fun z => absurd z (by omega))
    · show nI 1 + nI 2 * nI (4 + j) = _
      rw [pk_mul, nI_add]
    · exact ⟨300, sd_l60 hL 300 (1 + 2 * (4 + j)) s.1 0 0 0 0 0 0 0 0 0 s.2.1 s.2.2.1 s.2.2.2 _ _ _ _ (by omega) (by omega) (by omega) h⟩
  · intro m i s hi h hw
    refine pk_le (4 + j) i (fun z => absurd z (by omega)) (fun _ => ?_)
    have e1 : 1 + 2 * nI i = nI (1 + 2 * i) := by
      show nI 1 + nI 2 * nI i = _
      rw [pk_mul, nI_add]
    have e2 : 2 + 2 * nI i = nI (2 + 2 * i) := by
      show nI 2 + nI 2 * nI i = _
      rw [pk_mul, nI_add]
    refine sd_cell hL (by omega) e1 (fun r1 => sd_cell hL (by omega) e2 (fun r2 => ?_))
    exact sd_emit h (fun n' x1 x2 x3 hc' => nm_r (nI_1 i) (hw (n', x1, x2, x3) hc'))
end
