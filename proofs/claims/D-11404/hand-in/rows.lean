section
/-! rows nx_, nf_ out of kit/laws/BITS.to-paste -/
theorem nx_and (a b : Nat) : nI a &&& nI b = nI (a &&& b) := by
  apply Int32.toBitVec_inj.1
  show BitVec.ofNat 32 a &&& BitVec.ofNat 32 b = BitVec.ofNat 32 (a &&& b)
  apply BitVec.eq_of_getLsbD_eq
  intro i hi
  simp [hi]
theorem nx_xor (a b : Nat) : nI a ^^^ nI b = nI (a ^^^ b) := by
  apply Int32.toBitVec_inj.1
  show BitVec.ofNat 32 a ^^^ BitVec.ofNat 32 b = BitVec.ofNat 32 (a ^^^ b)
  apply BitVec.eq_of_getLsbD_eq
  intro i hi
  simp [hi]
theorem nx_cnt : ∀ j : Fin 32, (UInt32.ofNat j.val &&& Int32.toUInt32 31).toNat % 32 = j.val := by decide +kernel
theorem nx_ush {k j : Nat} (hk : k < 65536) (hj : j < 32) : ((nI k).toUInt32 >>> ((nI j).toUInt32 &&& Int32.toUInt32 31)).toInt32 = nI (k >>> j) := by
  have hs : k >>> j ≤ k := by
    rw [Nat.shiftRight_eq_div_pow]
    exact Nat.div_le_self _ _
  have e2 : UInt32.ofNat k >>> (UInt32.ofNat j &&& Int32.toUInt32 31) = UInt32.ofNat (k >>> j) := by
    apply UInt32.toNat_inj.1
    have h1 : (UInt32.ofNat k).toNat = k := Nat.mod_eq_of_lt (by omega)
    have h2 : (UInt32.ofNat (k >>> j)).toNat = k >>> j := Nat.mod_eq_of_lt (by omega)
    rw [UInt32.toNat_shiftRight, nx_cnt ⟨j, hj⟩, h1, h2]
  show (UInt32.ofNat k >>> (UInt32.ofNat j &&& Int32.toUInt32 31)).toInt32 = _
  rw [e2]
  rfl
theorem nf_sh : ∀ l, l < 32 → ((1 : Int32) <<< (nI l &&& 31)).toBitVec = BitVec.twoPow 32 l := by decide +kernel
theorem nf_sl : ∀ l, l < 32 → (((nI l).toUInt32 &&& Int32.toUInt32 31).toBitVec % 32).toNat = l := by decide +kernel
theorem nf_tp : ∀ l, l < 32 → BitVec.twoPow 32 l ≠ 0#32 := by decide +kernel
theorem nf_bit (m : Int32) (l : Nat) (hl : l < 32) : ((m.toUInt32 >>> ((nI l).toUInt32 &&& Int32.toUInt32 31)).toInt32 &&& 1) = 0 ↔ (m &&& ((1 : Int32) <<< (nI l &&& 31))) = 0 := by
  have e : ((m.toUInt32 >>> ((nI l).toUInt32 &&& Int32.toUInt32 31)).toInt32).toBitVec = m.toBitVec >>> l := by
    show m.toBitVec >>> (((nI l).toUInt32 &&& Int32.toUInt32 31).toBitVec % 32) = m.toBitVec >>> l
    rw [BitVec.ushiftRight_eq', nf_sl l hl]
  rw [← Int32.toBitVec_inj, ← Int32.toBitVec_inj, Int32.toBitVec_and, Int32.toBitVec_and, nf_sh l hl, e, BitVec.and_twoPow]
  show (m.toBitVec >>> l &&& 1#32) = 0#32 ↔ _ = 0#32
  rw [BitVec.and_one_eq_setWidth_ofBool_getLsbD, BitVec.getLsbD_ushiftRight, Nat.add_zero]
  cases hb : m.toBitVec.getLsbD l
  · exact ⟨fun _ => by simp, fun _ => by decide⟩
  · exact ⟨fun z => absurd z (by decide), fun z => absurd ((if_pos rfl).symm.trans z) (nf_tp l hl)⟩
/-! own rows: bits -/
theorem pw_or (a b : Nat) : nI a ||| nI b = nI (a ||| b) := by
  apply Int32.toBitVec_inj.1
  show BitVec.ofNat 32 a ||| BitVec.ofNat 32 b = BitVec.ofNat 32 (a ||| b)
  apply BitVec.eq_of_getLsbD_eq
  intro i hi
  simp [hi]
theorem pw_one : ∀ j, j < 10 → (1 : Int32) <<< (nI j &&& 31) = nI (Nat.pow 2 j) := by decide +kernel
theorem pw_not {x y : Nat} (hx : x < 1024) : nI x &&& (nI y ^^^ (-1)) = nI (Nat.land x (Nat.xor 1023 y)) := by
  have e : (-1 : Int32) = nI 4294967295 := by decide
  rw [e, nx_xor, nx_and]
  show nI (x &&& (y ^^^ 4294967295)) = nI (x &&& (1023 ^^^ y))
  congr 1
  apply Nat.eq_of_testBit_eq
  intro i
  rw [Nat.testBit_and, Nat.testBit_xor, Nat.testBit_and, Nat.testBit_xor, show (4294967295 : Nat) = 2 ^ 32 - 1 from rfl, show (1023 : Nat) = 2 ^ 10 - 1 from rfl, Nat.testBit_two_pow_sub_one, Nat.testBit_two_pow_sub_one]
  rcases Nat.lt_or_ge i 10 with h | h
  · rw [decide_eq_true h, decide_eq_true (show i < 32 by omega), Bool.xor_comm]
  · have h2 : 2 ^ 10 ≤ 2 ^ i := Nat.pow_le_pow_right (by decide) h
    rw [Nat.testBit_lt_two_pow (Nat.lt_of_lt_of_le hx h2), Bool.false_and, Bool.false_and]
theorem pw_orlt {a b : Nat} (ha : a < 1024) (hb : b < 1024) : Nat.lor a b < 1024 := Nat.or_lt_two_pow (n := 10) ha hb
theorem pw_andlt {a : Nat} (b : Nat) (ha : a < 1024) : Nat.land a b < 1024 := Nat.lt_of_le_of_lt (Nat.and_le_left (n := a) (m := b)) ha
theorem pw_pow : ∀ j, j < 10 → Nat.pow 2 j < 1024 := by decide +kernel
/-- one bit as a number, as a Bool -/
def pw_v (x i : Nat) : Nat := Nat.land (Nat.shiftRight x i) 1
def pw_t (x i : Nat) : Bool := Nat.beq (pw_v x i) 1
theorem pw_vI {x i : Nat} (hx : x < 1024) (hi : i < 10) : (((nI x).toUInt32 >>> ((nI i).toUInt32 &&& Int32.toUInt32 31)).toInt32 &&& 1) = nI (pw_v x i) := by
  rw [nx_ush (by omega) (by omega)]
  exact nx_and (x >>> i) 1
theorem pw_v01 (x i : Nat) : pw_v x i = 0 ∨ pw_v x i = 1 := by
  have h : pw_v x i ≤ 1 := Nat.and_le_right (n := Nat.shiftRight x i) (m := 1)
  omega
theorem pw_bI {x i : Nat} (hx : x < 1024) (hi : i < 10) : (((nI x).toUInt32 >>> ((nI i).toUInt32 &&& Int32.toUInt32 31)).toInt32 &&& 1) = 0 ↔ pw_t x i = false := by
  rw [pw_vI hx hi]
  unfold pw_t
  rcases pw_v01 x i with e | e <;> rw [e] <;> decide
theorem pw_mI {x i : Nat} (hx : x < 1024) (hi : i < 10) : (nI x &&& ((1 : Int32) <<< (nI i &&& 31))) = 0 ↔ pw_t x i = false := by
  rw [← nf_bit (nI x) i (by omega)]
  exact pw_bI hx hi
/-! branches by a Bool -/
theorem pw_br {c A B : Prop} {t : Bool} (e : c ↔ t = false) (f : t = false → A) (g : t = true → B) : (c → A) ∧ (¬ c → B) := by
  refine ⟨fun h => f (e.mp h), fun h => g ?_⟩
  cases t
  · exact absurd (e.mpr rfl) h
  · rfl
theorem pw_bt {c A B : Prop} {t : Bool} (e : c ↔ t = true) (f : t = true → A) (g : t = false → B) : (c → A) ∧ (¬ c → B) := by
  refine ⟨fun h => f (e.mp h), fun h => g ?_⟩
  cases t
  · rfl
  · exact absurd (e.mpr rfl) h
theorem pw_ct {b X Y : Bool} (h : cond b X Y = true) (hb : b = true) : X = true := by
  rw [hb] at h
  exact h
theorem pw_cf {b X Y : Bool} (h : cond b X Y = true) (hb : b = false) : Y = true := by
  rw [hb] at h
  exact h
theorem pw_z {x y : Nat} (hx : x < 1024) : (nI x &&& nI y) = 0 ↔ Nat.beq (Nat.land x y) 0 = true := by
  rw [nx_and, ← nI_0]
  show nI (Nat.land x y) = nI 0 ↔ _
  have h := pw_andlt y hx
  rw [nI_eq (by omega) (by omega), Nat.beq_eq]
/-! in range and out of it -/
def pw_out (x : Int32) : Prop := x < 0 ∨ 9 < x
theorem pw_cases (x : Int32) : pw_out x ∨ ∃ a : Nat, a < 10 ∧ x = nI a := by
  rcases pk_ix x (n := 10) (by omega) with h | h | h
  · exact Or.inl (Or.inl h)
  · refine Or.inl (Or.inr ?_)
    have h1 := Int32.le_iff_toInt_le.mp h
    rw [nI_toInt (by omega)] at h1
    refine Int32.lt_iff_toInt_lt.mpr ?_
    have e : (9 : Int32).toInt = 9 := by decide
    omega
  · exact Or.inr h
theorem pw_9 {a : Nat} (ha : a < 10) : ¬ (9 : Int32) < nI a := nI_nlt (a := 9) (b := a) (by omega) (by omega)
theorem pw_thing {post : Int32 → Prop} {a : Nat} (ha : a < 10) (hp : post 1) : wpX_isThing post () (nI a) :=
  br_f (nI_pos (by omega)) (br_f (pw_9 ha) hp)
theorem pw_nothing {post : Int32 → Prop} {x : Int32} (h : pw_out x) (hp : post 0) : wpX_isThing post () x := by
  refine br_c (fun _ => hp) (fun z => ?_)
  rcases h with h | h
  · exact absurd h z
  · exact br_t h hp
theorem pw_n10 : ¬ (1 : Int32) = 0 := by decide
/-! an array holds a picture -/
def pw_M (a : Nat → Int32) (A : Nat → Nat) : Prop := ∀ j, j < 10 → a j = nI (A j) ∧ A j < 1024
/-- below i the new picture F, from i on the old one A -/
def pw_P (i : Nat) (s : Nat → Int32) (F A : Nat → Nat) : Prop := (∀ j, j < i → s j = nI (F j)) ∧ (∀ j, i ≤ j → j < 10 → s j = nI (A j))
theorem pw_P_0 {s : Nat → Int32} {F A : Nat → Nat} (h : pw_M s A) : pw_P 0 s F A := ⟨fun j hj => absurd hj (by omega), fun j _ hj => (h j hj).1⟩
theorem pw_P_keep {i : Nat} {s : Nat → Int32} {F A : Nat → Nat} (h : pw_P i s F A) (hi : i < 10) (e : F i = A i) : pw_P (i + 1) s F A := by
  refine ⟨fun j hj => ?_, fun j h1 h2 => h.2 j (by omega) h2⟩
  by_cases ej : j = i
  · rw [ej, e]
    exact h.2 i (Nat.le_refl i) hi
  · exact h.1 j (by omega)
theorem pw_P_put {i : Nat} {s : Nat → Int32} {F A : Nat → Nat} {x : Int32} (h : pw_P i s F A) (hi : i < 10) (e : x = nI (F i)) : pw_P (i + 1) (upd s i x) F A := by
  refine ⟨fun j hj => ?_, fun j h1 h2 => ?_⟩
  · by_cases ej : j = i
    · rw [ej, pk_us, e]
    · rw [pk_un ej]
      exact h.1 j (by omega)
  · rw [pk_un (by omega)]
    exact h.2 j (by omega) h2
theorem pw_P_10 {s : Nat → Int32} {F A : Nat → Nat} (h : pw_P 10 s F A) (hF : ∀ j, j < 10 → F j < 1024) : pw_M s F := fun j hj => ⟨h.1 j hj, hF j hj⟩
/-! size, pairs -/
def pw_sz (x : Nat) : Nat → Nat
  | 0 => 0
  | n + 1 => pw_sz x n + pw_v x n
def pw_pr (A : Nat → Nat) : Nat → Nat
  | 0 => 0
  | n + 1 => pw_pr A n + pw_sz (A n) 10
theorem pw_size {post : Int32 → Prop} {x : Nat} (hx : x < 1024) (hp : post (nI (pw_sz x 10))) : wpX_size post () (nI x) :=
  pk_loop (fun n i s => wX_size_4 post (nI x) n s (nI i)) (fun i s => s = nI (pw_sz x i)) 10 0 0 (by omega) rfl
    (fun n s h => pk_le 10 10 (fun _ => by rw [h]; exact hp) (fun z => absurd z (by omega)))
    (fun n i s hi h hw => pk_le 10 i (fun z => absurd z (by omega)) (fun _ => nm_r (by rw [h, pw_vI hx hi]; exact nI_add _ _) (nm_r (nI_1 i) (hw _ rfl))))
theorem pw_pairs {post : Int32 → Prop} {f0 : Int32} {a1 a2 a3 a4 a5 a6 : Nat → Int32} {A : Nat → Nat} (hA : pw_M a1 A) (hp : post (nI (pw_pr A 10))) : wpX_pairs post (f0, a1, a2, a3, a4, a5, a6) :=
  pk_loop (fun n i s => wX_pairs_4 post f0 a1 a2 a3 a4 a5 a6 n s (nI i)) (fun i s => s = nI (pw_pr A i)) 10 0 0 (by omega) rfl
    (fun n s h => pk_le 10 10 (fun _ => by rw [h]; exact hp) (fun z => absurd z (by omega)))
    (fun n i s hi h hw => pk_le 10 i (fun z => absurd z (by omega)) (fun _ => ⟨pk_in i 10 hi, by
      rw [nI_clamp (show i < 2 ^ 31 by omega), (hA i hi).1]
      exact pw_size (hA i hi).2 (nm_r (by rw [h]; exact nI_add _ _) (nm_r (nI_1 i) (hw _ rfl)))⟩))
/-! put -/
def pw_pA (lo up : Nat) (A : Nat → Nat) : Nat → Nat := fun t => cond (pw_t lo t) (Nat.lor (A t) up) (A t)
theorem pw_pA_t {lo up t : Nat} {A : Nat → Nat} (e : pw_t lo t = true) : pw_pA lo up A t = Nat.lor (A t) up := by
  unfold pw_pA
  rw [e]
  rfl
theorem pw_pA_f {lo up t : Nat} {A : Nat → Nat} (e : pw_t lo t = false) : pw_pA lo up A t = A t := by
  unfold pw_pA
  rw [e]
  rfl
theorem pw_pA_lt {lo up t : Nat} {A : Nat → Nat} (h : A t < 1024) (hu : up < 1024) : pw_pA lo up A t < 1024 := by
  cases e : pw_t lo t
  · rw [pw_pA_f e]
    exact h
  · rw [pw_pA_t e]
    exact pw_orlt h hu
theorem pw_88 {post : Int32 → St2 → Prop} {J : Int32 → (Nat → Int32) → (Nat → Int32) → (Nat → Int32) → (Nat → Int32) → (Nat → Int32) → (Nat → Int32) → Prop} {lo up i : Nat} {f0 : Int32} {a1 a2 a3 a4 a5 a6 : Nat → Int32} {B : Nat → Nat}
    (hB : pw_P i a2 (pw_pA up lo B) B) (hi : i < 10) (hu : up < 1024) (hw : ∀ a2', pw_P (i + 1) a2' (pw_pA up lo B) B → J (nI (i + 1)) a1 a2' a3 a4 a5 a6) :
    wX_put_88 post J (nI lo) (nI up) (nI i) f0 a1 a2 a3 a4 a5 a6 := by
  unfold wX_put_88
  refine pw_br (pw_bI hu hi) (fun e => nm_r (nI_1 i) (hw _ (pw_P_keep hB hi (pw_pA_f e)))) (fun e => ⟨pk_in i 10 hi, pk_in i 10 hi, ?_⟩)
  rw [nI_clamp (show i < 2 ^ 31 by omega)]
  exact nm_e (nm_r (nI_1 i) (hw _ (pw_P_put hB hi (by rw [hB.2 i (Nat.le_refl i) hi, pw_pA_t e]; exact pw_or _ _))))
theorem pw_60 {post : Int32 → St2 → Prop} {lo up : Nat} {f0 : Int32} {a1 a2 a3 a4 a5 a6 : Nat → Int32} {A B : Nat → Nat}
    (hA : pw_M a1 A) (hB : pw_M a2 B) (hl : lo < 1024) (hu : up < 1024)
    (H : ∀ a1' a2', pw_M a1' (pw_pA lo up A) → pw_M a2' (pw_pA up lo B) → post (nI (pw_pr (pw_pA lo up A) 10)) (f0, a1', a2', a3, a4, a5, a6)) :
    ∃ n, wX_put_60 post (nI lo) (nI up) f0 n 0 a1 a2 a3 a4 a5 a6 :=
  pk_loop (fun n i (s : (Nat → Int32) × (Nat → Int32)) => wX_put_60 post (nI lo) (nI up) f0 n (nI i) s.1 s.2 a3 a4 a5 a6) (fun i s => pw_P i s.1 (pw_pA lo up A) A ∧ pw_P i s.2 (pw_pA up lo B) B) 10 0 (a1, a2) (by omega) ⟨pw_P_0 hA, pw_P_0 hB⟩
    (fun n s h => pk_le 10 10 (fun _ => by
      have m1 := pw_P_10 h.1 (fun j hj => pw_pA_lt (hA j hj).2 hu)
      have m2 := pw_P_10 h.2 (fun j hj => pw_pA_lt (hB j hj).2 hl)
      exact pw_pairs m1 (H _ _ m1 m2)) (fun z => absurd z (by omega)))
    (fun n i s hi h hw => pk_le 10 i (fun z => absurd z (by omega)) (fun _ => pw_br (pw_bI hl hi)
      (fun e => pw_88 h.2 hi hu (fun a2' h2 => hw (s.1, a2') ⟨pw_P_keep h.1 hi (pw_pA_f e), h2⟩))
      (fun e => ⟨pk_in i 10 hi, pk_in i 10 hi, by
        rw [nI_clamp (show i < 2 ^ 31 by omega)]
        exact nm_e (pw_88 h.2 hi hu (fun a2' h2 => hw (_, a2') ⟨pw_P_put h.1 hi (by rw [h.1.2 i (Nat.le_refl i) hi, pw_pA_t e]; exact pw_or _ _), h2⟩))⟩)))
/-- the order with a before b -/
def pw_nA (A B : Nat → Nat) (a b : Nat) : Nat → Nat := pw_pA (Nat.lor (B a) (Nat.pow 2 a)) (Nat.lor (A b) (Nat.pow 2 b)) A
def pw_nB (A B : Nat → Nat) (a b : Nat) : Nat → Nat := pw_pA (Nat.lor (A b) (Nat.pow 2 b)) (Nat.lor (B a) (Nat.pow 2 a)) B
theorem pw_put {post : Int32 → St2 → Prop} {f0 : Int32} {a1 a2 a3 a4 a5 a6 : Nat → Int32} {A B : Nat → Nat} {a b : Nat} (hA : pw_M a1 A) (hB : pw_M a2 B) (ha : a < 10) (hb : b < 10) (hab : a ≠ b) (hc : pw_t (A b) a = false)
    (H : ∀ a1' a2', pw_M a1' (pw_nA A B a b) → pw_M a2' (pw_nB A B a b) → post (nI (pw_pr (pw_nA A B a b) 10)) (f0, a1', a2', a3, a4, a5, a6)) :
    wpX_put post (f0, a1, a2, a3, a4, a5, a6) (nI a) (nI b) := by
  unfold wpX_put
  refine pw_thing ha (br_f pw_n10 (pw_thing hb (br_f pw_n10 (pk_eq a b (fun z => absurd z hab) (fun _ => ⟨pk_in b 10 hb, ?_⟩)))))
  rw [nI_clamp (show a < 2 ^ 31 by omega), nI_clamp (show b < 2 ^ 31 by omega), (hA b hb).1, (hB a ha).1]
  refine pw_br (pw_bI (hA b hb).2 ha) (fun _ => ⟨pk_in a 10 ha, nm_r (e' := nI (Nat.lor (B a) (Nat.pow 2 a))) (by rw [pw_one a ha]; exact pw_or _ _) ⟨pk_in b 10 hb, nm_r (e' := nI (Nat.lor (A b) (Nat.pow 2 b))) (by rw [pw_one b hb]; exact pw_or _ _) ?_⟩⟩) (fun e => absurd e (by rw [hc]; decide))
  exact pw_60 hA hB (pw_orlt (hB a ha).2 (pw_pow a ha)) (pw_orlt (hA b hb).2 (pw_pow b hb)) H
theorem pw_putN {post : Int32 → St2 → Prop} {u : St2} {x y : Int32} (h : pw_out x ∨ pw_out y ∨ x = y) (hp : post (-1) u) : wpX_put post u x y := by
  obtain ⟨f0, a1, a2, a3, a4, a5, a6⟩ := u
  unfold wpX_put
  rcases pw_cases x with hx | ⟨a, ha, hx⟩
  · exact pw_nothing hx (br_t rfl hp)
  · rcases pw_cases y with hy | ⟨b, hb, hy⟩
    · rw [hx]
      exact pw_thing ha (br_f pw_n10 (pw_nothing hy (br_t rfl hp)))
    · rcases h with h | h | h
      · exact pw_nothing h (br_t rfl hp)
      · rw [hx]
        exact pw_thing ha (br_f pw_n10 (pw_nothing h (br_t rfl hp)))
      · rw [h, hy]
        exact pw_thing hb (br_f pw_n10 (pw_thing hb (br_f pw_n10 (br_t rfl hp))))
theorem pw_putC {post : Int32 → St2 → Prop} {f0 : Int32} {a1 a2 a3 a4 a5 a6 : Nat → Int32} {A : Nat → Nat} {a b : Nat} (hA : pw_M a1 A) (ha : a < 10) (hb : b < 10) (hc : pw_t (A b) a = true) (hp : post (-1) (f0, a1, a2, a3, a4, a5, a6)) :
    wpX_put post (f0, a1, a2, a3, a4, a5, a6) (nI a) (nI b) := by
  unfold wpX_put
  refine pw_thing ha (br_f pw_n10 (pw_thing hb (br_f pw_n10 (pk_eq a b (fun _ => hp) (fun _ => ⟨pk_in b 10 hb, ?_⟩)))))
  rw [nI_clamp (show b < 2 ^ 31 by omega), (hA b hb).1]
  exact pw_br (pw_bI (hA b hb).2 ha) (fun e => absurd e (by rw [hc]; decide)) (fun _ => hp)
/-! before -/
theorem pw_before {post : Int32 → Prop} {f0 : Int32} {a1 a2 a3 a4 a5 a6 : Nat → Int32} {A : Nat → Nat} {a b : Nat} (hA : pw_M a1 A) (ha : a < 10) (hb : b < 10) (hp : post (nI (pw_v (A a) b))) :
    wpX_before post (f0, a1, a2, a3, a4, a5, a6) (nI a) (nI b) := by
  unfold wpX_before
  refine pw_thing ha (br_f pw_n10 (pw_thing hb (br_f pw_n10 ⟨pk_in a 10 ha, ?_⟩)))
  rw [nI_clamp (show a < 2 ^ 31 by omega), (hA a ha).1, pw_vI (hA a ha).2 hb]
  exact hp
theorem pw_beforeN {post : Int32 → Prop} {u : St2} {x y : Int32} (h : pw_out x ∨ pw_out y) (hp : post (-1)) : wpX_before post u x y := by
  obtain ⟨f0, a1, a2, a3, a4, a5, a6⟩ := u
  unfold wpX_before
  rcases pw_cases x with hx | ⟨a, ha, hx⟩
  · exact pw_nothing hx (br_t rfl hp)
  · rcases h with h | h
    · exact pw_nothing h (br_t rfl hp)
    · rw [hx]
      exact pw_thing ha (br_f pw_n10 (pw_nothing h (br_t rfl hp)))
/-! release -/
def pw_cl (A : Nat → Nat) (b : Nat) : Nat → Nat := fun t => Nat.land (A t) (Nat.xor 1023 (Nat.pow 2 b))
def pw_rl (A : Nat → Nat) (b : Nat) : Nat → Nat := fun t => cond (Nat.beq t b) 0 (pw_cl A b t)
theorem pw_rl_M {s : Nat → Int32} {A : Nat → Nat} {b : Nat} (h : pw_M s (pw_cl A b)) : pw_M (upd s b 0) (pw_rl A b) := by
  intro j hj
  unfold pw_rl
  by_cases e : j = b
  · rw [e, pk_us, Nat.beq_refl]
    exact ⟨rfl, show 0 < 1024 by omega⟩
  · rw [pk_un e]
    have e2 : Nat.beq j b = false := by
      cases hb : Nat.beq j b
      · rfl
      · exact absurd (Nat.eq_of_beq_eq_true hb) e
    rw [e2]
    exact h j hj
theorem pw_release {post : Int32 → St2 → Prop} {f0 : Int32} {a1 a2 a3 a4 a5 a6 : Nat → Int32} {A B : Nat → Nat} {b : Nat} (hA : pw_M a1 A) (hB : pw_M a2 B) (hb : b < 10)
    (H : ∀ a1' a2', pw_M a1' (pw_rl A b) → pw_M a2' (pw_rl B b) → post (nI (pw_pr (pw_rl A b) 10)) (f0, a1', a2', a3, a4, a5, a6)) :
    wpX_release post (f0, a1, a2, a3, a4, a5, a6) (nI b) := by
  unfold wpX_release
  refine pw_thing hb (br_f pw_n10 ?_)
  refine pk_loop (fun n i (s : (Nat → Int32) × (Nat → Int32)) => wX_release_11 post (nI b) f0 n (nI i) s.1 s.2 a3 a4 a5 a6) (fun i s => pw_P i s.1 (pw_cl A b) A ∧ pw_P i s.2 (pw_cl B b) B) 10 0 (a1, a2) (by omega) ⟨pw_P_0 hA, pw_P_0 hB⟩ ?_ ?_
  · intro n s h
    refine pk_le 10 10 (fun _ => ⟨pk_in b 10 hb, ?_⟩) (fun z => absurd z (by omega))
    rw [nI_clamp (show b < 2 ^ 31 by omega)]
    have m1 := pw_rl_M (pw_P_10 h.1 (fun j hj => pw_andlt _ (hA j hj).2))
    have m2 := pw_rl_M (pw_P_10 h.2 (fun j hj => pw_andlt _ (hB j hj).2))
    exact nm_e ⟨pk_in b 10 hb, nm_e (pw_pairs m1 (H _ _ m1 m2))⟩
  · intro n i s hi h hw
    refine pk_le 10 i (fun z => absurd z (by omega)) (fun _ => ⟨pk_in i 10 hi, pk_in i 10 hi, ?_⟩)
    rw [nI_clamp (show i < 2 ^ 31 by omega)]
    refine nm_e ⟨pk_in i 10 hi, pk_in i 10 hi, nm_e (nm_r (nI_1 i) (hw (_, _) ⟨pw_P_put h.1 hi ?_, pw_P_put h.2 hi ?_⟩))⟩
    · rw [h.1.2 i (Nat.le_refl i) hi, pw_one b hb]
      exact pw_not (hA i hi).2
    · rw [h.2.2 i (Nat.le_refl i) hi, pw_one b hb]
      exact pw_not (hB i hi).2
theorem pw_releaseN {post : Int32 → St2 → Prop} {u : St2} {x : Int32} (h : pw_out x) (hp : post (-1) u) : wpX_release post u x := by
  obtain ⟨f0, a1, a2, a3, a4, a5, a6⟩ := u
  unfold wpX_release
  exact pw_nothing h (br_t rfl hp)
end
section
/-! the first ones of a set -/
def pw_fo (B : Nat → Nat) (x : Nat) : Nat → Nat
  | 0 => 0
  | n + 1 => cond (pw_t x n) (cond (Nat.beq (Nat.land (B n) x) 0) (Nat.lor (pw_fo B x n) (Nat.pow 2 n)) (pw_fo B x n)) (pw_fo B x n)
theorem pw_fo_n {B : Nat → Nat} {x n : Nat} (e : pw_t x n = false) : pw_fo B x (n + 1) = pw_fo B x n := by
  show cond (pw_t x n) _ _ = _
  rw [e]
  rfl
theorem pw_fo_k {B : Nat → Nat} {x n : Nat} (e : pw_t x n = true) (e2 : Nat.beq (Nat.land (B n) x) 0 = false) : pw_fo B x (n + 1) = pw_fo B x n := by
  show cond (pw_t x n) (cond (Nat.beq (Nat.land (B n) x) 0) _ _) _ = _
  rw [e, e2]
  rfl
theorem pw_fo_y {B : Nat → Nat} {x n : Nat} (e : pw_t x n = true) (e2 : Nat.beq (Nat.land (B n) x) 0 = true) : pw_fo B x (n + 1) = Nat.lor (pw_fo B x n) (Nat.pow 2 n) := by
  show cond (pw_t x n) (cond (Nat.beq (Nat.land (B n) x) 0) _ _) _ = _
  rw [e, e2]
  rfl
theorem pw_fo_lt {B : Nat → Nat} {x : Nat} : ∀ n, n ≤ 10 → pw_fo B x n < 1024 := by
  intro n
  induction n with
  | zero =>
    intro _
    show 0 < 1024
    omega
  | succ n ih =>
    intro h
    have i := ih (by omega)
    cases e : pw_t x n
    · rw [pw_fo_n e]
      exact i
    · cases e2 : Nat.beq (Nat.land (B n) x) 0
      · rw [pw_fo_k e e2]
        exact i
      · rw [pw_fo_y e e2]
        exact pw_orlt i (pw_pow n (by omega))
theorem pw_t0 : ∀ i, i < 10 → pw_t 0 i = false := by decide +kernel
theorem pw_fo_0 {B : Nat → Nat} : ∀ n, n ≤ 10 → pw_fo B 0 n = 0 := by
  intro n
  induction n with
  | zero => intro _; rfl
  | succ n ih =>
    intro h
    rw [pw_fo_n (pw_t0 n (by omega))]
    exact ih (by omega)
theorem pw_first {post : Int32 → Prop} {f0 : Int32} {a1 a2 a3 a4 a5 a6 : Nat → Int32} {B : Nat → Nat} {x : Nat} (hB : pw_M a2 B) (hx : x < 1024) (hp : post (nI (pw_fo B x 10))) : wpX_firstOnes post (f0, a1, a2, a3, a4, a5, a6) (nI x) := by
  refine pk_loop (fun n i s => wX_firstOnes_4 post (nI x) f0 a1 a2 a3 a4 a5 a6 n s (nI i)) (fun i s => s = nI (pw_fo B x i)) 10 0 0 (by omega) rfl ?_ ?_
  · intro n s h
    exact pk_le 10 10 (fun _ => by rw [h]; exact hp) (fun z => absurd z (by omega))
  · intro n i s hi h hw
    refine pk_le 10 i (fun z => absurd z (by omega)) (fun _ => pw_br (pw_bI hx hi) (fun e => nm_r (nI_1 i) (hw s (by rw [h, pw_fo_n e]))) (fun e => ⟨pk_in i 10 hi, ?_⟩))
    rw [nI_clamp (show i < 2 ^ 31 by omega), (hB i hi).1]
    refine pw_bt (pw_z (hB i hi).2) (fun e2 => nm_r (e' := nI (pw_fo B x (i + 1))) ?_ (nm_r (nI_1 i) (hw _ rfl))) (fun e2 => nm_r (nI_1 i) (hw s (by rw [h, pw_fo_k e e2])))
    rw [h, pw_one i hi, pw_fo_y e e2]
    exact pw_or _ _
/-! the longest chain of a set -/
def pw_lg (B : Nat → Nat) (x : Nat) : Nat → Nat → Nat → Nat
  | 0, m, _ => m
  | n + 1, m, s => cond (Nat.beq (Nat.land x (Nat.xor 1023 s)) 0) m (cond (Nat.beq (pw_fo B (Nat.land x (Nat.xor 1023 s)) 10) 0) m (pw_lg B x n (m + 1) (Nat.lor s (pw_fo B (Nat.land x (Nat.xor 1023 s)) 10))))
theorem pw_beq0 {n : Nat} (h : n ≠ 0) : Nat.beq n 0 = false := by
  cases e : Nat.beq n 0
  · rfl
  · exact absurd (Nat.eq_of_beq_eq_true e) h
theorem pw_lg_s {B : Nat → Nat} {x s : Nat} (h : pw_fo B (Nat.land x (Nat.xor 1023 s)) 10 = 0) (n m : Nat) : pw_lg B x n m s = m := by
  cases n with
  | zero => rfl
  | succ n =>
    show cond (Nat.beq (Nat.land x (Nat.xor 1023 s)) 0) m (cond (Nat.beq (pw_fo B (Nat.land x (Nat.xor 1023 s)) 10) 0) m _) = m
    rw [h]
    cases Nat.beq (Nat.land x (Nat.xor 1023 s)) 0 <;> rfl
theorem pw_lg_g {B : Nat → Nat} {x s : Nat} (h : pw_fo B (Nat.land x (Nat.xor 1023 s)) 10 ≠ 0) (n m : Nat) : pw_lg B x (n + 1) m s = pw_lg B x n (m + 1) (Nat.lor s (pw_fo B (Nat.land x (Nat.xor 1023 s)) 10)) := by
  have h0 : Nat.land x (Nat.xor 1023 s) ≠ 0 := by
    intro e
    rw [e] at h
    exact h (pw_fo_0 10 (Nat.le_refl 10))
  show cond (Nat.beq (Nat.land x (Nat.xor 1023 s)) 0) m (cond (Nat.beq (pw_fo B (Nat.land x (Nat.xor 1023 s)) 10) 0) m _) = _
  rw [pw_beq0 h0, pw_beq0 h]
  rfl
theorem pw_lg_le {B : Nat → Nat} {x : Nat} : ∀ n m s, pw_lg B x n m s ≤ m + n := by
  intro n
  induction n with
  | zero =>
    intro m s
    exact Nat.le_refl m
  | succ n ih =>
    intro m s
    by_cases h : pw_fo B (Nat.land x (Nat.xor 1023 s)) 10 = 0
    · rw [pw_lg_s h]
      omega
    · rw [pw_lg_g h]
      have := ih (m + 1) (Nat.lor s (pw_fo B (Nat.land x (Nat.xor 1023 s)) 10))
      omega
theorem pw_longest {post : Int32 → Prop} {f0 : Int32} {a1 a2 a3 a4 a5 a6 : Nat → Int32} {B : Nat → Nat} {x : Nat} (hB : pw_M a2 B) (hx : x < 1024) (hp : post (nI (pw_lg B x 10 0 0))) : wpX_longest post (f0, a1, a2, a3, a4, a5, a6) (nI x) := by
  refine pk_loop (fun n i (s : Int32 × Int32) => wX_longest_7 post (nI x) f0 a1 a2 a3 a4 a5 a6 n s.1 s.2 (nI i)) (fun i s => ∃ m t, s = (nI m, nI t) ∧ t < 1024 ∧ pw_lg B x (10 - i) m t = pw_lg B x 10 0 0) 10 0 (0, 0) (by omega) ⟨0, 0, rfl, by omega, rfl⟩ ?_ ?_
  · rintro n s ⟨m, t, rfl, ht, e⟩
    refine pk_le 10 10 (fun _ => ?_) (fun z => absurd z (by omega))
    have e' : m = pw_lg B x 10 0 0 := e
    show post (nI m)
    rw [e']
    exact hp
  · rintro n i s hi ⟨m, t, rfl, ht, e⟩ hw
    refine pk_le 10 i (fun z => absurd z (by omega)) (fun _ => ?_)
    show wpX_firstOnes _ _ (nI x &&& (nI t ^^^ (-1)))
    rw [pw_not hx]
    have hf := pw_fo_lt (B := B) (x := Nat.land x (Nat.xor 1023 t)) 10 (Nat.le_refl 10)
    refine pw_first hB (pw_andlt _ hx) (pk_eq (pw_fo B (Nat.land x (Nat.xor 1023 t)) 10) 0 (fun z => ?_) (fun z => ?_))
    · rw [z]
      refine nm_r (e' := nI t) ?_ (nm_r (nI_1 i) (hw (nI m, nI t) ⟨m, t, rfl, ht, ?_⟩))
      · rw [pw_or, Nat.or_zero]
      · rw [pw_lg_s z, ← e, pw_lg_s z]
    · refine nm_r (nI_1 m) (nm_r (pw_or _ _) (nm_r (nI_1 i) (hw (_, _) ⟨m + 1, _, rfl, pw_orlt ht hf, ?_⟩)))
      rw [← e, show 10 - i = (10 - (i + 1)) + 1 by omega, pw_lg_g z]
      rfl
/-! height with a thing, height -/
def pw_hw (A B : Nat → Nat) (t : Nat) : Nat := pw_lg B (B t) 10 0 0 + 1 + pw_lg B (A t) 10 0 0
theorem pw_hw_le (A B : Nat → Nat) (t : Nat) : pw_hw A B t ≤ 21 := by
  have h1 := pw_lg_le (B := B) (x := B t) 10 0 0
  have h2 := pw_lg_le (B := B) (x := A t) 10 0 0
  unfold pw_hw
  omega
theorem pw_heightWith {post : Int32 → Prop} {f0 : Int32} {a1 a2 a3 a4 a5 a6 : Nat → Int32} {A B : Nat → Nat} {t : Nat} (hA : pw_M a1 A) (hB : pw_M a2 B) (ht : t < 10) (hp : post (nI (pw_hw A B t))) : wpX_heightWith post (f0, a1, a2, a3, a4, a5, a6) (nI t) := by
  unfold wpX_heightWith
  refine pw_thing ht (br_f pw_n10 ⟨pk_in t 10 ht, ?_⟩)
  rw [nI_clamp (show t < 2 ^ 31 by omega), (hB t ht).1, (hA t ht).1]
  refine pw_longest hB (hB t ht).2 ⟨pk_in t 10 ht, pw_longest hB (hA t ht).2 ?_⟩
  rw [nI_1, nI_add]
  exact hp
theorem pw_heightWithN {post : Int32 → Prop} {u : St2} {x : Int32} (h : pw_out x) (hp : post (-1)) : wpX_heightWith post u x := by
  obtain ⟨f0, a1, a2, a3, a4, a5, a6⟩ := u
  unfold wpX_heightWith
  exact pw_nothing h (br_t rfl hp)
def pw_ht (A B : Nat → Nat) : Nat → Nat
  | 0 => 0
  | n + 1 => cond (Nat.ble (pw_hw A B n) (pw_ht A B n)) (pw_ht A B n) (pw_hw A B n)
theorem pw_ht_k {A B : Nat → Nat} {n : Nat} (h : pw_hw A B n ≤ pw_ht A B n) : pw_ht A B (n + 1) = pw_ht A B n := by
  show cond (Nat.ble (pw_hw A B n) (pw_ht A B n)) _ _ = _
  rw [Nat.ble_eq_true_of_le h]
  rfl
theorem pw_ht_n {A B : Nat → Nat} {n : Nat} (h : pw_ht A B n < pw_hw A B n) : pw_ht A B (n + 1) = pw_hw A B n := by
  have e : Nat.ble (pw_hw A B n) (pw_ht A B n) = false := by
    cases e : Nat.ble (pw_hw A B n) (pw_ht A B n)
    · rfl
    · exact absurd (Nat.le_of_ble_eq_true e) (by omega)
  show cond (Nat.ble (pw_hw A B n) (pw_ht A B n)) _ _ = _
  rw [e]
  rfl
theorem pw_ht_le {A B : Nat → Nat} : ∀ n, pw_ht A B n ≤ 21 := by
  intro n
  induction n with
  | zero =>
    show 0 ≤ 21
    omega
  | succ n ih =>
    rcases Nat.lt_or_ge (pw_ht A B n) (pw_hw A B n) with h | h
    · rw [pw_ht_n h]
      exact pw_hw_le A B n
    · rw [pw_ht_k h]
      exact ih
theorem pw_height {post : Int32 → Prop} {f0 : Int32} {a1 a2 a3 a4 a5 a6 : Nat → Int32} {A B : Nat → Nat} (hA : pw_M a1 A) (hB : pw_M a2 B) (hp : post (nI (pw_ht A B 10))) : wpX_height post (f0, a1, a2, a3, a4, a5, a6) := by
  refine pk_loop (fun n i s => wX_height_4 post f0 a1 a2 a3 a4 a5 a6 n s (nI i)) (fun i s => s = nI (pw_ht A B i)) 10 0 0 (by omega) rfl ?_ ?_
  · intro n s h
    exact pk_le 10 10 (fun _ => by rw [h]; exact hp) (fun z => absurd z (by omega))
  · intro n i s hi h hw
    have b1 := pw_hw_le A B i
    have b2 := pw_ht_le (A := A) (B := B) i
    refine pk_le 10 i (fun z => absurd z (by omega)) (fun _ => pw_heightWith hA hB hi ?_)
    refine pk_le (pw_hw A B i) (pw_ht A B i) (fun z => nm_r (nI_1 i) (hw s (by rw [h, pw_ht_k z]))) (fun z => nm_r (nI_1 i) (hw _ (by rw [pw_ht_n z]))) rfl h
end
section
/-! coded places: 0 is -1, k + 1 is k -/
def pw_e : Nat → Int32
  | 0 => -1
  | n + 1 => nI n
def pw_E (a : Nat → Int32) (m : Nat → Nat) : Prop := ∀ j, j < 10 → a j = pw_e (m j) ∧ m j ≤ 10
def pw_Q (q : Nat) (a : Nat → Int32) (m : Nat → Nat) : Prop := q ≤ 10 ∧ ∀ j, j < q → a j = nI (m j) ∧ m j < 10
def pw_u (m : Nat → Nat) (k v : Nat) : Nat → Nat := fun j => cond (Nat.beq j k) v (m j)
theorem pw_us {m : Nat → Nat} {k v : Nat} : pw_u m k v k = v := by
  unfold pw_u
  rw [Nat.beq_refl]
  rfl
theorem pw_un {m : Nat → Nat} {k v j : Nat} (h : j ≠ k) : pw_u m k v j = m j := by
  have e : Nat.beq j k = false := by
    cases e : Nat.beq j k
    · rfl
    · exact absurd (Nat.eq_of_beq_eq_true e) h
  unfold pw_u
  rw [e]
  rfl
theorem pw_E_u {a : Nat → Int32} {m : Nat → Nat} {k v : Nat} (h : pw_E a m) (hv : v ≤ 10) : pw_E (upd a k (pw_e v)) (pw_u m k v) := by
  intro j hj
  by_cases e : j = k
  · rw [e, pk_us, pw_us]
    exact ⟨rfl, hv⟩
  · rw [pk_un e, pw_un e]
    exact h j hj
theorem pw_Q_u {a : Nat → Int32} {m : Nat → Nat} {q v : Nat} (h : pw_Q q a m) (hq : q < 10) (hv : v < 10) : pw_Q (q + 1) (upd a q (nI v)) (pw_u m q v) := by
  refine ⟨by omega, fun j hj => ?_⟩
  by_cases e : j = q
  · rw [e, pk_us, pw_us]
    exact ⟨rfl, hv⟩
  · rw [pk_un e, pw_un e]
    exact h.2 j (by omega)
theorem pw_E_0 {a : Nat → Int32} (h : ∀ j, j < 10 → a j = -1) : pw_E a (fun _ => 0) := fun j hj => ⟨h j hj, show 0 ≤ 10 by omega⟩
/-! spread -/
def pw_sp (y : Nat) (x : Nat) (m4 : Nat → Nat) (k : Nat → Nat → (Nat → Nat) → (Nat → Nat) → Bool) : Nat → Nat → Nat → (Nat → Nat) → (Nat → Nat) → Bool
  | 0, _, q, m5, m6 => k 0 q m5 m6
  | n + 1, t, q, m5, m6 => cond (pw_t y t) (cond (Nat.beq (m5 t) 0) (cond (Nat.beq (m4 t) 0) (k (t + 1) q (pw_u m5 t (x + 1)) m6) (cond (Nat.ble 10 q) false (pw_sp y x m4 k n (t + 1) (q + 1) (pw_u m5 t (x + 1)) (pw_u m6 q (Nat.pred (m4 t)))))) (pw_sp y x m4 k n (t + 1) q m5 m6)) (pw_sp y x m4 k n (t + 1) q m5 m6)
theorem pw_m1n : ¬ (0 : Int32) ≤ -1 := by decide
theorem pw_spread_l {post : Int32 → St2 → Prop} {a1 a2 a3 a4 : Nat → Int32} {A m4 : Nat → Nat} {x set : Nat} {k : Nat → Nat → (Nat → Nat) → (Nat → Nat) → Bool} (hA : pw_M a1 A) (h4 : pw_E a4 m4) (hx : x < 10) (hs : set < 1024)
    (hk : ∀ r q m5 m6 a5 a6, k r q m5 m6 = true → r ≤ 10 → pw_E a5 m5 → pw_Q q a6 m6 → post (pw_e r) (nI q, a1, a2, a3, a4, a5, a6)) :
    ∀ n t q m5 m6 a5 a6, t + n = 10 → pw_E a5 m5 → pw_Q q a6 m6 → pw_sp (Nat.land (A x) set) x m4 k n t q m5 m6 = true → wX_spread_2 post (nI x) (nI set) (n + 1) (nI t) (nI q) a1 a2 a3 a4 a5 a6 := by
  intro n
  induction n with
  | zero =>
    intro t q m5 m6 a5 a6 ht h5 h6 h
    exact pk_le 10 t (fun _ => hk 0 q m5 m6 a5 a6 h (by omega) h5 h6) (fun z => absurd z (by omega))
  | succ n ih =>
    intro t q m5 m6 a5 a6 ht h5 h6 h
    have ht' : t < 10 := by omega
    have hq := h6.1
    have h' : cond (pw_t (Nat.land (A x) set) t) (cond (Nat.beq (m5 t) 0) (cond (Nat.beq (m4 t) 0) (k (t + 1) q (pw_u m5 t (x + 1)) m6) (cond (Nat.ble 10 q) false (pw_sp (Nat.land (A x) set) x m4 k n (t + 1) (q + 1) (pw_u m5 t (x + 1)) (pw_u m6 q (Nat.pred (m4 t)))))) (pw_sp (Nat.land (A x) set) x m4 k n (t + 1) q m5 m6)) (pw_sp (Nat.land (A x) set) x m4 k n (t + 1) q m5 m6) = true := h
    refine pk_le 10 t (fun z => absurd z (by omega)) (fun _ => ⟨pk_in x 10 hx, ?_⟩)
    rw [nI_clamp (show x < 2 ^ 31 by omega), nI_clamp (show t < 2 ^ 31 by omega), nI_clamp (show q < 2 ^ 31 by omega), (hA x hx).1, nx_and]
    refine pw_br (pw_mI (pw_andlt set (hA x hx).2) ht') (fun e => nm_r (nI_1 t) (ih (t + 1) q m5 m6 a5 a6 (by omega) h5 h6 (pw_cf h' e))) (fun e => ⟨pk_in t 10 ht', ?_⟩)
    have h2 := pw_ct h' e
    rw [(h5 t ht').1, (h4 t ht').1]
    cases e5 : m5 t with
    | succ v =>
      exact br_t (nI_pos' (by have := (h5 t ht').2; omega)) (nm_r (nI_1 t) (ih (t + 1) q m5 m6 a5 a6 (by omega) h5 h6 (pw_cf h2 (by rw [e5]; rfl))))
    | zero =>
      have h3 := pw_ct h2 (by rw [e5]; rfl)
      have h5' : pw_E (upd a5 t (nI x)) (pw_u m5 t (x + 1)) := pw_E_u (v := x + 1) h5 (by omega)
      refine br_f pw_m1n ⟨pk_in t 10 ht', nm_e ⟨pk_in t 10 ht', ?_⟩⟩
      cases e4 : m4 t with
      | zero =>
        exact br_f pw_m1n (hk (t + 1) q _ m6 _ a6 (pw_ct h3 (by rw [e4]; rfl)) (by omega) h5' h6)
      | succ v =>
        have h6' := pw_cf h3 (by rw [e4]; rfl)
        have hv : v < 10 := by
          have := (h4 t ht').2
          omega
        have hq' : q < 10 := by
          rcases Nat.lt_or_ge q 10 with z | z
          · exact z
          · exact absurd (pw_ct h6' (Nat.ble_eq_true_of_le z)) (by decide)
        have h7 := pw_cf h6' (by
          cases z : Nat.ble 10 q
          · rfl
          · exact absurd (Nat.le_of_ble_eq_true z) (by omega))
        rw [e4] at h7
        exact br_t (nI_pos' (by omega)) ⟨pk_in t 10 ht', pk_in q 10 hq', nm_e (nm_r (nI_1 q) (nm_r (nI_1 t) (ih (t + 1) (q + 1) _ _ _ _ (by omega) h5' (pw_Q_u h6 hq' hv) h7)))⟩
theorem pw_spread {post : Int32 → St2 → Prop} {a1 a2 a3 a4 a5 a6 : Nat → Int32} {A m4 m5 m6 : Nat → Nat} {x set q : Nat} {k : Nat → Nat → (Nat → Nat) → (Nat → Nat) → Bool} (hA : pw_M a1 A) (h4 : pw_E a4 m4) (hx : x < 10) (hs : set < 1024)
    (h5 : pw_E a5 m5) (h6 : pw_Q q a6 m6) (h : pw_sp (Nat.land (A x) set) x m4 k 10 0 q m5 m6 = true)
    (hk : ∀ r q m5 m6 a5 a6, k r q m5 m6 = true → r ≤ 10 → pw_E a5 m5 → pw_Q q a6 m6 → post (pw_e r) (nI q, a1, a2, a3, a4, a5, a6)) :
    wpX_spread post (nI q, a1, a2, a3, a4, a5, a6) (nI x) (nI set) :=
  ⟨11, pw_spread_l hA h4 hx hs hk 10 0 q m5 m6 a5 a6 (by omega) h5 h6 h⟩
/-! turnWay -/
def pw_tw (m5 : Nat → Nat) (k : (Nat → Nat) → (Nat → Nat) → Bool) : Nat → Nat → (Nat → Nat) → (Nat → Nat) → Bool
  | 0, _, m3, m4 => k m3 m4
  | n + 1, t, m3, m4 => cond (Nat.beq t 0) (k m3 m4) (cond (Nat.beq (m5 (Nat.pred t)) 0) false (pw_tw m5 k n (m3 (Nat.pred (m5 (Nat.pred t)))) (pw_u m3 (Nat.pred (m5 (Nat.pred t))) t) (pw_u m4 (Nat.pred t) (m5 (Nat.pred t)))))
theorem pw_turn_l {post : St2 → Prop} {f0 : Int32} {a1 a2 a5 a6 : Nat → Int32} {m5 : Nat → Nat} {k : (Nat → Nat) → (Nat → Nat) → Bool} (h5 : pw_E a5 m5)
    (hk : ∀ m3 m4 a3 a4, k m3 m4 = true → pw_E a3 m3 → pw_E a4 m4 → post (f0, a1, a2, a3, a4, a5, a6)) :
    ∀ n s t m3 m4 a3 a4, s + n = 10 → t ≤ 10 → pw_E a3 m3 → pw_E a4 m4 → pw_tw m5 k n t m3 m4 = true → wX_turnWay_4 post f0 (n + 1) (pw_e t) (nI s) a1 a2 a3 a4 a5 a6 := by
  intro n
  induction n with
  | zero =>
    intro s t m3 m4 a3 a4 hs ht h3 h4 h
    exact pk_le 10 s (fun _ => hk m3 m4 a3 a4 h h3 h4) (fun z => absurd z (by omega))
  | succ n ih =>
    intro s t m3 m4 a3 a4 hs ht h3 h4 h
    have h' : cond (Nat.beq t 0) (k m3 m4) (cond (Nat.beq (m5 (Nat.pred t)) 0) false (pw_tw m5 k n (m3 (Nat.pred (m5 (Nat.pred t)))) (pw_u m3 (Nat.pred (m5 (Nat.pred t))) t) (pw_u m4 (Nat.pred t) (m5 (Nat.pred t))))) = true := h
    refine pk_le 10 s (fun z => absurd z (by omega)) (fun _ => ?_)
    cases t with
    | zero => exact br_t (by decide) (hk m3 m4 a3 a4 h' h3 h4)
    | succ t =>
      have ht' : t < 10 := by omega
      have h2 : cond (Nat.beq (m5 t) 0) false (pw_tw m5 k n (m3 (Nat.pred (m5 t))) (pw_u m3 (Nat.pred (m5 t)) (t + 1)) (pw_u m4 t (m5 t))) = true := h'
      refine br_f (nI_pos (by omega)) ⟨pk_in t 10 ht', ?_⟩
      show ∀ x4_4 : Int32, x4_4 = a5 (nI t).toNatClampNeg → _
      have hc : (nI t).toNatClampNeg = t := nI_clamp (by omega)
      cases e5 : m5 t with
      | zero =>
        rw [e5] at h2
        exact absurd (show false = true from h2) (by decide)
      | succ f =>
        rw [e5] at h2
        have h7 : pw_tw m5 k n (m3 f) (pw_u m3 f (t + 1)) (pw_u m4 t (f + 1)) = true := h2
        have hf : f < 10 := by
          have := (h5 t ht').2
          omega
        refine nm_r (e' := nI f) (by rw [hc, (h5 t ht').1, e5]; rfl) ⟨pk_in f 10 hf, ?_⟩
        rw [nI_clamp (show f < 2 ^ 31 by omega)]
        refine nm_r (h3 f hf).1 ⟨pk_in f 10 hf, nm_e ⟨pk_in t 10 ht', ?_⟩⟩
        show ∀ a4_10 : Nat → Int32, a4_10 = upd a4 (nI t).toNatClampNeg (nI f) → _
        rw [hc]
        exact nm_e (nm_r (nI_1 s) (ih (s + 1) (m3 f) _ _ _ _ (by omega) (h3 f hf).2 (pw_E_u (v := t + 1) h3 (by omega)) (pw_E_u (v := f + 1) h4 (by omega)) h7))
/-! lengthen -/
def pw_ln (A : Nat → Nat) (set : Nat) (k : Bool → (Nat → Nat) → (Nat → Nat) → Bool) (m3 m4 : Nat → Nat) : Nat → Nat → Nat → (Nat → Nat) → (Nat → Nat) → Bool
  | 0, _, _, _, _ => k false m3 m4
  | n + 1, i, q, m5, m6 => cond (Nat.ble q i) (k false m3 m4) (pw_sp (Nat.land (A (m6 i)) set) (m6 i) m4 (fun r q' m5' m6' => cond (Nat.beq r 0) (pw_ln A set k m3 m4 n (i + 1) q' m5' m6') (pw_tw m5' (k true) 10 r m3 m4)) 10 0 q m5 m6)
def pw_f : Bool → Int32
  | false => 0
  | true => 1
theorem pw_len35 {post : Int32 → St2 → Prop} {a1 a2 a3 a4 : Nat → Int32} {A m3 m4 : Nat → Nat} {set : Nat} {k : Bool → (Nat → Nat) → (Nat → Nat) → Bool} (hA : pw_M a1 A) (hs : set < 1024) (h3 : pw_E a3 m3) (h4 : pw_E a4 m4)
    (hk : ∀ j m3 m4 f0 a3 a4 a5 a6, k j m3 m4 = true → pw_E a3 m3 → pw_E a4 m4 → post (pw_f j) (f0, a1, a2, a3, a4, a5, a6)) :
    ∀ n i q m5 m6 a5 a6, i + n = 10 → pw_E a5 m5 → pw_Q q a6 m6 → pw_ln A set k m3 m4 n i q m5 m6 = true → wX_lengthen_35 post (nI set) (n + 1) (nI i) (nI q) a1 a2 a3 a4 a5 a6 := by
  intro n
  induction n with
  | zero =>
    intro i q m5 m6 a5 a6 hi h5 h6 h
    have hq := h6.1
    exact pk_le q i (fun _ => hk false m3 m4 (nI q) a3 a4 a5 a6 h h3 h4) (fun z => absurd z (by omega))
  | succ n ih =>
    intro i q m5 m6 a5 a6 hi h5 h6 h
    have hq := h6.1
    have h' : cond (Nat.ble q i) (k false m3 m4) (pw_sp (Nat.land (A (m6 i)) set) (m6 i) m4 (fun r q' m5' m6' => cond (Nat.beq r 0) (pw_ln A set k m3 m4 n (i + 1) q' m5' m6') (pw_tw m5' (k true) 10 r m3 m4)) 10 0 q m5 m6) = true := h
    refine pk_le q i (fun z => hk false m3 m4 (nI q) a3 a4 a5 a6 (pw_ct h' (Nat.ble_eq_true_of_le z)) h3 h4) (fun z => pk_le 10 i (fun z => absurd z (by omega)) (fun _ => ⟨pk_in i 10 (by omega), ?_⟩))
    have h2 := pw_cf h' (by
      cases e : Nat.ble q i
      · rfl
      · exact absurd (Nat.le_of_ble_eq_true e) (by omega))
    rw [nI_clamp (show i < 2 ^ 31 by omega), (h6.2 i z).1]
    refine pw_spread hA h4 (h6.2 i z).2 hs h5 h6 h2 (fun r q' m5' m6' a5' a6' hr hr10 h5' h6' => ?_)
    cases r with
    | zero => exact br_t (show (-1 : Int32) < 0 by decide) (nm_r (nI_1 i) (ih (i + 1) q' m5' m6' a5' a6' (by omega) h5' h6' hr))
    | succ r =>
      refine br_f (nI_pos (by omega)) ⟨11, ?_⟩
      exact pw_turn_l h5' (fun m3' m4' a3' a4' hm h3' h4' => hk true m3' m4' (nI q') a3' a4' a5' a6' hm h3' h4') 10 0 (r + 1) m3 m4 a3 a4 (by omega) hr10 h3 h4 hr
theorem pw_lengthen {post : Int32 → St2 → Prop} {f0 : Int32} {a1 a2 a3 a4 a5 a6 : Nat → Int32} {A m3 m4 : Nat → Nat} {x set : Nat} {k : Bool → (Nat → Nat) → (Nat → Nat) → Bool} (hA : pw_M a1 A) (hx : x < 10) (hs : set < 1024) (h3 : pw_E a3 m3) (h4 : pw_E a4 m4)
    (h : pw_ln A set k m3 m4 10 0 1 (fun _ => 0) (fun _ => x) = true)
    (hk : ∀ j m3 m4 f0 a3 a4 a5 a6, k j m3 m4 = true → pw_E a3 m3 → pw_E a4 m4 → post (pw_f j) (f0, a1, a2, a3, a4, a5, a6)) :
    wpX_lengthen post (f0, a1, a2, a3, a4, a5, a6) (nI x) (nI set) := by
  refine pk_loop (fun n i s => wX_lengthen_2 post (nI x) (nI set) f0 n (nI i) a1 a2 a3 a4 s a6) (fun i s => ∀ j, j < i → s j = -1) 10 0 a5 (by omega) (fun j hj => absurd hj (by omega)) ?_ ?_
  · intro n s h5
    refine pk_le 10 10 (fun _ => nm_e ⟨11, ?_⟩) (fun z => absurd z (by omega))
    exact pw_len35 hA hs h3 h4 hk 10 0 1 (fun _ => 0) (fun _ => x) s _ (by omega) (pw_E_0 h5) ⟨by omega, fun j hj => ⟨by rw [show j = 0 by omega, pk_us], hx⟩⟩ h
  · intro n i s hi h5 hw
    refine pk_le 10 i (fun z => absurd z (by omega)) (fun _ => ⟨pk_in i 10 hi, ?_⟩)
    rw [nI_clamp (show i < 2 ^ 31 by omega)]
    refine nm_e (nm_r (nI_1 i) (hw _ (fun j hj => ?_)))
    by_cases e : j = i
    · rw [e, pk_us]
    · rw [pk_un e]
      exact h5 j (by omega)
/-! widthOf -/
def pw_wd (A : Nat → Nat) (set : Nat) (k : Nat → Bool) : Nat → Nat → Nat → (Nat → Nat) → (Nat → Nat) → Bool
  | 0, _, c, _, _ => k c
  | n + 1, t, c, m3, m4 => cond (pw_t set t) (pw_ln A set (fun j m3' m4' => cond j (cond (Nat.beq c 0) false (pw_wd A set k n (t + 1) (Nat.pred c) m3' m4')) (pw_wd A set k n (t + 1) c m3' m4')) m3 m4 10 0 1 (fun _ => 0) (fun _ => t)) (pw_wd A set k n (t + 1) c m3 m4)
theorem pw_wid35 {post : Int32 → St2 → Prop} {a1 a2 : Nat → Int32} {A : Nat → Nat} {set : Nat} {k : Nat → Bool} (hA : pw_M a1 A) (hs : set < 1024)
    (hk : ∀ c f0 a3 a4 a5 a6, k c = true → post (nI c) (f0, a1, a2, a3, a4, a5, a6)) :
    ∀ n t c m3 m4 f0 a3 a4 a5 a6, t + n = 10 → pw_E a3 m3 → pw_E a4 m4 → pw_wd A set k n t c m3 m4 = true → wX_widthOf_35 post (nI set) (n + 1) (nI c) (nI t) f0 a1 a2 a3 a4 a5 a6 := by
  intro n
  induction n with
  | zero =>
    intro t c m3 m4 f0 a3 a4 a5 a6 ht h3 h4 h
    exact pk_le 10 t (fun _ => hk c f0 a3 a4 a5 a6 h) (fun z => absurd z (by omega))
  | succ n ih =>
    intro t c m3 m4 f0 a3 a4 a5 a6 ht h3 h4 h
    have ht' : t < 10 := by omega
    have h' : cond (pw_t set t) (pw_ln A set (fun j m3' m4' => cond j (cond (Nat.beq c 0) false (pw_wd A set k n (t + 1) (Nat.pred c) m3' m4')) (pw_wd A set k n (t + 1) c m3' m4')) m3 m4 10 0 1 (fun _ => 0) (fun _ => t)) (pw_wd A set k n (t + 1) c m3 m4) = true := h
    refine pk_le 10 t (fun z => absurd z (by omega)) (fun _ => pw_br (pw_bI hs ht') (fun e => nm_r (nI_1 t) (ih (t + 1) c m3 m4 f0 a3 a4 a5 a6 (by omega) h3 h4 (pw_cf h' e))) (fun e => ?_))
    refine pw_lengthen hA ht' hs h3 h4 (pw_ct h' e) (fun j m3' m4' f0' a3' a4' a5' a6' hj h3' h4' => ?_)
    cases j with
    | false => exact br_t rfl (nm_r (pk_sub (a := c) (b := 0) (by omega)) (nm_r (nI_1 t) (ih (t + 1) c m3' m4' f0' a3' a4' a5' a6' (by omega) h3' h4' hj)))
    | true =>
      cases c with
      | zero => exact absurd (show false = true from hj) (by decide)
      | succ c => exact br_f pw_n10 (nm_r (nI_pred c) (nm_r (nI_1 t) (ih (t + 1) c m3' m4' f0' a3' a4' a5' a6' (by omega) h3' h4' hj)))
theorem pw_widthOf {post : Int32 → St2 → Prop} {f0 : Int32} {a1 a2 a3 a4 a5 a6 : Nat → Int32} {A : Nat → Nat} {set : Nat} {k : Nat → Bool} (hA : pw_M a1 A) (hs : set < 1024)
    (h : pw_wd A set k 10 0 (pw_sz set 10) (fun _ => 0) (fun _ => 0) = true)
    (hk : ∀ c f0 a3 a4 a5 a6, k c = true → post (nI c) (f0, a1, a2, a3, a4, a5, a6)) :
    wpX_widthOf post (f0, a1, a2, a3, a4, a5, a6) (nI set) := by
  refine pk_loop (fun n i (s : (Nat → Int32) × (Nat → Int32)) => wX_widthOf_2 post (nI set) f0 n (nI i) a1 a2 s.1 s.2 a5 a6) (fun i s => (∀ j, j < i → s.1 j = -1) ∧ (∀ j, j < i → s.2 j = -1)) 10 0 (a3, a4) (by omega) ⟨fun j hj => absurd hj (by omega), fun j hj => absurd hj (by omega)⟩ ?_ ?_
  · intro n s h3
    refine pk_le 10 10 (fun _ => pw_size hs ⟨11, ?_⟩) (fun z => absurd z (by omega))
    exact pw_wid35 hA hs hk 10 0 _ (fun _ => 0) (fun _ => 0) f0 s.1 s.2 a5 a6 (by omega) (pw_E_0 h3.1) (pw_E_0 h3.2) h
  · intro n i s hi h3 hw
    refine pk_le 10 i (fun z => absurd z (by omega)) (fun _ => ⟨pk_in i 10 hi, ?_⟩)
    rw [nI_clamp (show i < 2 ^ 31 by omega)]
    refine nm_e ⟨pk_in i 10 hi, nm_e (nm_r (nI_1 i) (hw (_, _) ⟨fun j hj => ?_, fun j hj => ?_⟩))⟩
    · by_cases e : j = i
      · rw [e]
        exact pk_us
      · show upd s.1 i (-1) j = -1
        rw [pk_un e]
        exact h3.1 j (by omega)
    · by_cases e : j = i
      · rw [e]
        exact pk_us
      · show upd s.2 i (-1) j = -1
        rw [pk_un e]
        exact h3.2 j (by omega)
theorem pw_width {post : Int32 → St2 → Prop} {f0 : Int32} {a1 a2 a3 a4 a5 a6 : Nat → Int32} {A : Nat → Nat} {k : Nat → Bool} (hA : pw_M a1 A)
    (h : pw_wd A 1023 k 10 0 10 (fun _ => 0) (fun _ => 0) = true)
    (hk : ∀ c f0 a3 a4 a5 a6, k c = true → post (nI c) (f0, a1, a2, a3, a4, a5, a6)) :
    wpX_width post (f0, a1, a2, a3, a4, a5, a6) := by
  unfold wpX_width
  exact pw_widthOf (set := 1023) (k := k) hA (by omega) h hk
theorem pw_beside {post : Int32 → St2 → Prop} {f0 : Int32} {a1 a2 a3 a4 a5 a6 : Nat → Int32} {A : Nat → Nat} {b : Nat} {k : Nat → Bool} (hA : pw_M a1 A) (hb : b < 10)
    (h : pw_wd A (A b) k 10 0 (pw_sz (A b) 10) (fun _ => 0) (fun _ => 0) = true)
    (hk : ∀ c f0 a3 a4 a5 a6, k c = true → post (nI c) (f0, a1, a2, a3, a4, a5, a6)) :
    wpX_widthBeside post (f0, a1, a2, a3, a4, a5, a6) (nI b) 1 := by
  unfold wpX_widthBeside
  refine pw_thing hb (br_f pw_n10 (br_f pw_n10 ⟨pk_in b 10 hb, ?_⟩))
  rw [nI_clamp (show b < 2 ^ 31 by omega), (hA b hb).1]
  unfold wX_widthBeside_29
  exact pw_widthOf (k := k) hA (hA b hb).2 h hk
theorem pw_besideN {post : Int32 → St2 → Prop} {u : St2} {x : Int32} (h : pw_out x) (hp : post (-1) u) : wpX_widthBeside post u x 1 := by
  obtain ⟨f0, a1, a2, a3, a4, a5, a6⟩ := u
  unfold wpX_widthBeside
  exact pw_nothing h (br_t rfl hp)
end
section
/-! the plain law, by evaluation over all things -/
def pw_0 : Nat → Nat := fun _ => 0
def pw_for (f : Nat → Bool) : Nat → Bool
  | 0 => true
  | n + 1 => and (f n) (pw_for f n)
theorem pw_and {x y : Bool} (h : and x y = true) : x = true ∧ y = true := by
  cases x
  · exact absurd (show false = true from h) (by decide)
  · exact ⟨rfl, h⟩
theorem pw_forI {f : Nat → Bool} : ∀ n, pw_for f n = true → ∀ i, i < n → f i = true := by
  intro n
  induction n with
  | zero =>
    intro _ i hi
    exact absurd hi (by omega)
  | succ n ih =>
    intro h i hi
    have h' := pw_and (show and (f n) (pw_for f n) = true from h)
    by_cases e : i = n
    · rw [e]
      exact h'.1
    · exact ih h'.2 i (by omega)
/-- all that the law asks of the order (A, B) behind the two puts: height h, width 11 - h, height with b, width above b, release of b -/
def pw_all (A B : Nat → Nat) (b h w p g : Nat) : Bool :=
  and (Nat.beq (pw_ht A B 10) h) (and (pw_wd A 1023 (fun c => Nat.beq c (Nat.sub 11 h)) 10 0 10 (fun _ => 0) (fun _ => 0)) (and (Nat.beq (pw_hw A B b) h) (and (pw_wd A (A b) (fun c => Nat.beq c w) 10 0 (pw_sz (A b) 10) (fun _ => 0) (fun _ => 0)) (and (Nat.beq (pw_pr (pw_rl A b) 10) p) (Nat.beq (pw_ht (pw_rl A b) (pw_rl B b) 10) g)))))
theorem pw_allI {A B : Nat → Nat} {b h w p g : Nat} (e : pw_all A B b h w p g = true) :
    pw_ht A B 10 = h ∧ pw_wd A 1023 (fun c => Nat.beq c (11 - h)) 10 0 10 (fun _ => 0) (fun _ => 0) = true ∧ pw_hw A B b = h ∧ pw_wd A (A b) (fun c => Nat.beq c w) 10 0 (pw_sz (A b) 10) (fun _ => 0) (fun _ => 0) = true ∧ pw_pr (pw_rl A b) 10 = p ∧ pw_ht (pw_rl A b) (pw_rl B b) 10 = g := by
  unfold pw_all at e
  obtain ⟨e1, e⟩ := pw_and e
  obtain ⟨e2, e⟩ := pw_and e
  obtain ⟨e3, e⟩ := pw_and e
  obtain ⟨e4, e⟩ := pw_and e
  obtain ⟨e5, e6⟩ := pw_and e
  exact ⟨Nat.eq_of_beq_eq_true e1, e2, Nat.eq_of_beq_eq_true e3, e4, Nat.eq_of_beq_eq_true e5, Nat.eq_of_beq_eq_true e6⟩
/-- no pair -/
theorem pw_D0 : pw_for (fun b => pw_all pw_0 pw_0 b 1 0 0 1) 10 = true := by decide +kernel
/-- one pair a before b: asked at b, and at a -/
def pw_k1 (A B : Nat → Nat) (a b : Nat) : Bool := and (Nat.beq (pw_pr A 10) 1) (and (pw_all A B b 2 0 0 1) (and (pw_all A B a 2 1 0 1) (and (pw_t (A a) b) (and (Nat.beq (pw_v (A a) b) 1) (Nat.beq (pw_v (A a) a) 0)))))
def pw_c1 (a b : Nat) : Bool := or (Nat.beq a b) (pw_k1 (pw_nA pw_0 pw_0 a b) (pw_nB pw_0 pw_0 a b) a b)
theorem pw_D1 : pw_for (fun a => pw_for (fun b => pw_c1 a b) 10) 10 = true := by decide +kernel
/-- the chain a, b, c -/
def pw_k3 (A1 A B : Nat → Nat) (a b c : Nat) : Bool := and (not (pw_t (A1 c) b)) (and (Nat.beq (pw_pr A 10) 3) (and (pw_all A B b 3 1 1 2) (Nat.beq (pw_v (A a) c) 1)))
def pw_cA (a b c : Nat) : Nat → Nat := pw_nA (pw_nA pw_0 pw_0 a b) (pw_nB pw_0 pw_0 a b) b c
def pw_cB (a b c : Nat) : Nat → Nat := pw_nB (pw_nA pw_0 pw_0 a b) (pw_nB pw_0 pw_0 a b) b c
def pw_c3 (a b c : Nat) : Bool := or (Nat.beq a b) (or (Nat.beq b c) (or (Nat.beq a c) (pw_k3 (pw_nA pw_0 pw_0 a b) (pw_cA a b c) (pw_cB a b c) a b c)))
theorem pw_D3_0 : pw_for (fun b => pw_for (fun c => pw_c3 0 b c) 10) 10 = true := by decide +kernel
theorem pw_D3_1 : pw_for (fun b => pw_for (fun c => pw_c3 1 b c) 10) 10 = true := by decide +kernel
theorem pw_D3_2 : pw_for (fun b => pw_for (fun c => pw_c3 2 b c) 10) 10 = true := by decide +kernel
theorem pw_D3_3 : pw_for (fun b => pw_for (fun c => pw_c3 3 b c) 10) 10 = true := by decide +kernel
theorem pw_D3_4 : pw_for (fun b => pw_for (fun c => pw_c3 4 b c) 10) 10 = true := by decide +kernel
theorem pw_D3_5 : pw_for (fun b => pw_for (fun c => pw_c3 5 b c) 10) 10 = true := by decide +kernel
theorem pw_D3_6 : pw_for (fun b => pw_for (fun c => pw_c3 6 b c) 10) 10 = true := by decide +kernel
theorem pw_D3_7 : pw_for (fun b => pw_for (fun c => pw_c3 7 b c) 10) 10 = true := by decide +kernel
theorem pw_D3_8 : pw_for (fun b => pw_for (fun c => pw_c3 8 b c) 10) 10 = true := by decide +kernel
theorem pw_D3_9 : pw_for (fun b => pw_for (fun c => pw_c3 9 b c) 10) 10 = true := by decide +kernel
theorem pw_D3 {a : Nat} (ha : a < 10) : pw_for (fun b => pw_for (fun c => pw_c3 a b c) 10) 10 = true := by
  match a, ha with
  | 0, _ => exact pw_D3_0
  | 1, _ => exact pw_D3_1
  | 2, _ => exact pw_D3_2
  | 3, _ => exact pw_D3_3
  | 4, _ => exact pw_D3_4
  | 5, _ => exact pw_D3_5
  | 6, _ => exact pw_D3_6
  | 7, _ => exact pw_D3_7
  | 8, _ => exact pw_D3_8
  | 9, _ => exact pw_D3_9
theorem pw_orN {x y : Bool} (h : or x y = true) (hx : x = false) : y = true := by
  rw [hx] at h
  exact h
theorem pw_beqN {a b : Nat} (h : a ≠ b) : Nat.beq a b = false := by
  cases e : Nat.beq a b
  · rfl
  · exact absurd (Nat.eq_of_beq_eq_true e) h
theorem pw_F0 {b : Nat} (hb : b < 10) : pw_all pw_0 pw_0 b 1 0 0 1 = true := pw_forI 10 pw_D0 b hb
theorem pw_F1 {a b : Nat} (ha : a < 10) (hb : b < 10) (h : a ≠ b) : pw_k1 (pw_nA pw_0 pw_0 a b) (pw_nB pw_0 pw_0 a b) a b = true :=
  pw_orN (show or (Nat.beq a b) _ = true from pw_forI 10 (pw_forI 10 pw_D1 a ha) b hb) (pw_beqN h)
theorem pw_F3 {a b c : Nat} (ha : a < 10) (hb : b < 10) (hc : c < 10) (h1 : a ≠ b) (h2 : b ≠ c) (h3 : a ≠ c) : pw_k3 (pw_nA pw_0 pw_0 a b) (pw_cA a b c) (pw_cB a b c) a b c = true :=
  pw_orN (pw_orN (pw_orN (show or (Nat.beq a b) _ = true from pw_forI 10 (pw_forI 10 (pw_D3 ha) b hb) c hc) (pw_beqN h1)) (pw_beqN h2)) (pw_beqN h3)
theorem pw_G1 {a b : Nat} (ha : a < 10) (hb : b < 10) (h : a ≠ b) : pw_pr (pw_nA pw_0 pw_0 a b) 10 = 1 ∧ pw_all (pw_nA pw_0 pw_0 a b) (pw_nB pw_0 pw_0 a b) b 2 0 0 1 = true ∧ pw_all (pw_nA pw_0 pw_0 a b) (pw_nB pw_0 pw_0 a b) a 2 1 0 1 = true ∧ pw_t (pw_nA pw_0 pw_0 a b a) b = true ∧ pw_v (pw_nA pw_0 pw_0 a b a) b = 1 ∧ pw_v (pw_nA pw_0 pw_0 a b a) a = 0 := by
  have e := pw_F1 ha hb h
  unfold pw_k1 at e
  obtain ⟨e1, e⟩ := pw_and e
  obtain ⟨e2, e⟩ := pw_and e
  obtain ⟨e3, e⟩ := pw_and e
  obtain ⟨e4, e⟩ := pw_and e
  obtain ⟨e5, e6⟩ := pw_and e
  exact ⟨Nat.eq_of_beq_eq_true e1, e2, e3, e4, Nat.eq_of_beq_eq_true e5, Nat.eq_of_beq_eq_true e6⟩
theorem pw_G3 {a b c : Nat} (ha : a < 10) (hb : b < 10) (hc : c < 10) (h1 : a ≠ b) (h2 : b ≠ c) (h3 : a ≠ c) : pw_t (pw_nA pw_0 pw_0 a b c) b = false ∧ pw_pr (pw_cA a b c) 10 = 3 ∧ pw_all (pw_cA a b c) (pw_cB a b c) b 3 1 1 2 = true ∧ pw_v (pw_cA a b c a) c = 1 := by
  have e := pw_F3 ha hb hc h1 h2 h3
  unfold pw_k3 at e
  obtain ⟨e1, e⟩ := pw_and e
  obtain ⟨e2, e⟩ := pw_and e
  obtain ⟨e3, e4⟩ := pw_and e
  refine ⟨?_, Nat.eq_of_beq_eq_true e2, e3, Nat.eq_of_beq_eq_true e4⟩
  cases z : pw_t (pw_nA pw_0 pw_0 a b c) b
  · rfl
  · rw [z] at e1
    exact absurd e1 (by decide)
end
section
/-! the law, from its end to its head -/
def pw_h (one two : Bool) : Nat := cond one (cond two 3 2) (cond two 2 1)
def pw_n (b : Bool) : Nat := cond b 1 0
def pw_R (x : Int32) (p : Bool) : Prop := (p = true ∧ ∃ a : Nat, a < 10 ∧ x = nI a) ∨ (p = false ∧ pw_out x)
section
variable {post : Int32 → St0 → Prop} {mc ms kc ks : Nat} {f0 : Int32} {a1 a2 a3 a4 a5 a6 : Nat → Int32} {A B : Nat → Nat} {x0 x1 x2 x4 x5 x6 : Int32}
theorem pw_390 (hp : post 1 ()) (hA : pw_M a1 A) (hB : pw_M a2 B) (one two : Bool) {z0 z1 : Int32} (hz : z1 = z0) (hg : pw_ht A B 10 = 1 + pw_n (one && two)) :
    wL_lawOf_390 post mc ms (pw_f one) (pw_f two) z0 z1 kc ks f0 a1 a2 a3 a4 a5 a6 := by
  unfold wL_lawOf_390
  refine br_t hz (pw_height hA hB ?_)
  rw [hg]
  cases one <;> cases two
  · exact br_t rfl (br_t (by decide) hp)
  · exact br_t rfl (br_t (by decide) hp)
  · exact br_f pw_n10 (br_t rfl (br_t (by decide) hp))
  · exact br_f pw_n10 (br_f pw_n10 (br_t (by decide) hp))
theorem pw_356 (hp : post 1 ()) (hA : pw_M a1 A) (hB : pw_M a2 B) {b : Nat} (hb : b < 10) (one two : Bool) {z0 z1 : Int32} (hz : z1 = z0) (hr : pw_pr (pw_rl A b) 10 = pw_n (one && two)) (hg : pw_ht (pw_rl A b) (pw_rl B b) 10 = 1 + pw_n (one && two)) :
    wL_lawOf_356 post mc ms (nI b) 1 (pw_f one) (pw_f two) z0 z1 kc ks f0 a1 a2 a3 a4 a5 a6 := by
  unfold wL_lawOf_356
  refine br_t hz (pw_release hA hB hb (fun a1' a2' m1 m2 => ?_))
  rw [hr]
  refine br_f pw_n10 ?_
  cases one <;> cases two
  · exact br_t rfl (pw_390 hp m1 m2 false false (by decide) hg)
  · exact br_t rfl (pw_390 hp m1 m2 false true (by decide) hg)
  · exact br_f pw_n10 (br_t rfl (pw_390 hp m1 m2 true false (by decide) hg))
  · exact br_f pw_n10 (br_f pw_n10 (pw_390 hp m1 m2 true true (by decide) hg))
theorem pw_326 (hp : post 1 ()) (hA : pw_M a1 A) (hB : pw_M a2 B) {b : Nat} (hb : b < 10) (one two : Bool) {z0 z1 : Int32} (hz : z1 = z0)
    (hw : pw_wd A (A b) (fun c => Nat.beq c (pw_n two)) 10 0 (pw_sz (A b) 10) (fun _ => 0) (fun _ => 0) = true) (hr : pw_pr (pw_rl A b) 10 = pw_n (one && two)) (hg : pw_ht (pw_rl A b) (pw_rl B b) 10 = 1 + pw_n (one && two)) :
    wL_lawOf_326 post mc ms (nI b) 1 (pw_f one) (pw_f two) z0 z1 kc ks f0 a1 a2 a3 a4 a5 a6 := by
  unfold wL_lawOf_326
  refine br_t hz (pw_beside hA hb hw (fun c f0' a3' a4' a5' a6' hc => ?_))
  rw [Nat.eq_of_beq_eq_true hc]
  refine br_f pw_n10 ?_
  cases two
  · exact br_t rfl (pw_356 hp hA hB hb one false (by decide) hr hg)
  · exact br_f pw_n10 (pw_356 hp hA hB hb one true (by decide) hr hg)
theorem pw_287 (hp : post 1 ()) (hA : pw_M a1 A) (hB : pw_M a2 B) {b : Nat} (hb : b < 10) (one two : Bool) (he : pw_all A B b (pw_h one two) (pw_n two) (pw_n (one && two)) (1 + pw_n (one && two)) = true) :
    wL_lawOf_287 post mc ms (nI b) 1 (pw_f one) (pw_f two) (nI (pw_h one two)) kc ks f0 a1 a2 a3 a4 a5 a6 := by
  obtain ⟨e1, e2, e3, e4, e5, e6⟩ := pw_allI he
  have hh : pw_h one two ≤ 11 := by cases one <;> cases two <;> decide
  unfold wL_lawOf_287
  refine pw_height hA hB (br_t (congrArg nI e1) (pw_width hA e2 (fun c f0' a3' a4' a5' a6' hc => br_t ?_ (pw_heightWith hA hB hb (br_f pw_n10 (pw_326 hp hA hB hb one two (congrArg nI e3) e4 e5 e6))))))
  rw [Nat.eq_of_beq_eq_true hc]
  exact (pk_sub hh).symm
theorem pw_287N (hp : post 1 ()) (hA : pw_M a1 pw_0) (hB : pw_M a2 pw_0) (hx : pw_out x1) :
    wL_lawOf_287 post mc ms x1 0 (pw_f false) (pw_f false) (nI (pw_h false false)) kc ks f0 a1 a2 a3 a4 a5 a6 := by
  obtain ⟨e1, e2, _, _, _, _⟩ := pw_allI (pw_F0 (b := 0) (by omega))
  unfold wL_lawOf_287
  refine pw_height hA hB (br_t (congrArg nI e1) (pw_width hA e2 (fun c f0' a3' a4' a5' a6' hc => br_t ?_ (pw_heightWithN hx (br_t rfl ?_)))))
  · rw [Nat.eq_of_beq_eq_true hc]
    decide
  · unfold wL_lawOf_326
    refine br_t rfl (pw_besideN hx (br_t rfl ?_))
    unfold wL_lawOf_356
    exact br_t rfl (pw_releaseN hx (br_t rfl (pw_390 hp hA hB false false rfl e1)))
theorem pw_253 (one two : Bool) {z0 z1 : Int32} (hz : z1 = z0) (H : wL_lawOf_287 post mc ms x1 x5 (pw_f one) (pw_f two) (nI (pw_h one two)) kc ks f0 a1 a2 a3 a4 a5 a6) :
    wL_lawOf_253 post mc ms x1 x5 (pw_f one) (pw_f two) z0 z1 kc ks f0 a1 a2 a3 a4 a5 a6 := by
  unfold wL_lawOf_253
  refine br_t hz ?_
  cases one <;> cases two
  · exact br_t rfl (br_t rfl (br_t rfl H))
  · exact br_t rfl (br_t rfl (br_f pw_n10 H))
  · exact br_f pw_n10 (br_t rfl (br_f pw_n10 H))
  · exact br_f pw_n10 (br_f pw_n10 H)
theorem pw_188N (one two pa pc : Bool) {z0 z1 : Int32} (h : pa = false ∧ pw_out x0 ∨ pc = false ∧ pw_out x2) (hz : z1 = z0) (H : wL_lawOf_287 post mc ms x1 x5 (pw_f one) (pw_f two) (nI (pw_h one two)) kc ks f0 a1 a2 a3 a4 a5 a6) :
    wL_lawOf_188 post mc ms x0 x1 x2 (pw_f pa) x5 (pw_f pc) (pw_f one) (pw_f two) z0 z1 kc ks f0 a1 a2 a3 a4 a5 a6 := by
  have K : wL_lawOf_253 post mc ms x1 x5 (pw_f one) (pw_f two) (-1) (-1) kc ks f0 a1 a2 a3 a4 a5 a6 := pw_253 one two rfl H
  unfold wL_lawOf_188
  refine br_t hz (pw_beforeN (h.imp And.right And.right) ?_)
  cases pa
  · exact br_t rfl K
  · cases pc
    · exact br_f pw_n10 (br_t rfl K)
    · rcases h with ⟨z, _⟩ | ⟨z, _⟩
      · exact absurd z (by decide)
      · exact absurd z (by decide)
theorem pw_188I (one two : Bool) {z0 z1 : Int32} {a c : Nat} (hA : pw_M a1 A) (ha : a < 10) (hc : c < 10) (hz : z1 = z0) (H : wL_lawOf_287 post mc ms x1 x5 (pw_f one) (pw_f two) (nI (pw_h one two)) kc ks f0 a1 a2 a3 a4 a5 a6)
    (hv : (one = true ∧ two = true ∧ pw_v (A a) c = 1) ∨ (one = true ∧ two = false ∧ nI c = x1 ∧ pw_v (A a) c = 1) ∨ (one = true ∧ two = false ∧ ¬ nI c = x1 ∧ pw_v (A a) c = 0) ∨ (one = false ∧ two = true ∧ nI a = x1 ∧ ¬ nI a = nI c ∧ pw_v (A a) c = 1) ∨ (one = false ∧ two = false ∧ pw_v (A a) c = 0)) :
    wL_lawOf_188 post mc ms (nI a) x1 (nI c) (pw_f true) x5 (pw_f true) (pw_f one) (pw_f two) z0 z1 kc ks f0 a1 a2 a3 a4 a5 a6 := by
  unfold wL_lawOf_188
  refine br_t hz (pw_before hA ha hc (br_f pw_n10 (br_f pw_n10 ?_)))
  rcases hv with ⟨rfl, rfl, e⟩ | ⟨rfl, rfl, g, e⟩ | ⟨rfl, rfl, g, e⟩ | ⟨rfl, rfl, g, g2, e⟩ | ⟨rfl, rfl, e⟩
  · rw [e]
    exact br_f pw_n10 (br_f pw_n10 (pw_253 true true rfl H))
  · rw [e]
    exact br_f pw_n10 (br_t rfl (br_t rfl (br_f pw_n10 (br_t g (pw_253 true false rfl H)))))
  · rw [e]
    exact br_f pw_n10 (br_t rfl (br_t rfl (br_f pw_n10 (br_f g (pw_253 true false rfl H)))))
  · rw [e]
    exact br_t rfl (br_f pw_n10 (br_t g (br_f g2 (pw_253 false true rfl H))))
  · rw [e]
    exact br_t rfl (br_t rfl (br_t rfl (pw_253 false false rfl H)))
theorem pw_149 (one two : Bool) {z0 z1 : Int32} {A1 B1 A2 B2 : Nat → Nat}
    (h1 : ∀ Q : Int32 → St2 → Prop, (∀ a1' a2', pw_M a1' A1 → pw_M a2' B1 → Q (cond one 1 (-1)) (f0, a1', a2', a3, a4, a5, a6)) → wpX_put Q (f0, a1, a2, a3, a4, a5, a6) x0 x1)
    (h2 : ∀ a1 a2, pw_M a1 A1 → pw_M a2 B1 → ∀ Q : Int32 → St2 → Prop, (∀ a1' a2', pw_M a1' A2 → pw_M a2' B2 → Q (cond two (z1 + z0) (-1)) (f0, a1', a2', a3, a4, a5, a6)) → wpX_put Q (f0, a1, a2, a3, a4, a5, a6) x1 x2)
    (h3 : ∀ a1 a2, pw_M a1 A2 → pw_M a2 B2 → ∀ z0 z1, z1 = z0 → wL_lawOf_188 post mc ms x0 x1 x2 x4 x5 x6 (pw_f one) (pw_f two) z0 z1 kc ks f0 a1 a2 a3 a4 a5 a6) :
    wL_lawOf_149 post mc ms x0 x1 x2 x4 x5 x6 (pw_f one) (pw_f two) z0 z1 kc ks f0 a1 a2 a3 a4 a5 a6 := by
  unfold wL_lawOf_149
  refine nm_e (h1 _ (fun a1' a2' m1 m2 => ?_))
  have K : ∀ z w : Int32, w = z → wL_lawOf_168 post mc ms x0 x1 x2 x4 x5 x6 (pw_f one) (pw_f two) (z1 + z0) z w kc ks f0 a1' a2' a3 a4 a5 a6 := by
    intro z w hz
    unfold wL_lawOf_168
    refine br_t hz (h2 a1' a2' m1 m2 _ (fun a1'' a2'' m3 m4 => ?_))
    cases two
    · exact br_t rfl (h3 a1'' a2'' m3 m4 _ _ rfl)
    · exact br_f pw_n10 (h3 a1'' a2'' m3 m4 _ _ rfl)
  cases one
  · exact br_t rfl (K _ _ rfl)
  · exact br_f pw_n10 (K _ _ rfl)
/-! the four regimes -/
theorem pw_core0 (hp : post 1 ()) (hA : pw_M a1 pw_0) (hB : pw_M a2 pw_0) (pa pb pc : Bool) (ha : pw_R x0 pa) (hb : pw_R x1 pb) (hc : pw_R x2 pc) (h1 : pw_out x0 ∨ pw_out x1 ∨ x0 = x1) (h2 : pw_out x1 ∨ pw_out x2 ∨ x1 = x2) {z0 z1 : Int32} :
    wL_lawOf_149 post mc ms x0 x1 x2 (pw_f pa) (pw_f pb) (pw_f pc) (pw_f false) (pw_f false) z0 z1 kc ks f0 a1 a2 a3 a4 a5 a6 := by
  refine pw_149 (A1 := pw_0) (B1 := pw_0) (A2 := pw_0) (B2 := pw_0) false false (fun Q hQ => pw_putN h1 (hQ a1 a2 hA hB)) (fun a1 a2 m1 m2 Q hQ => pw_putN h2 (hQ a1 a2 m1 m2)) (fun a1 a2 m1 m2 z0 z1 hz => ?_)
  have K : wL_lawOf_287 post mc ms x1 (pw_f pb) (pw_f false) (pw_f false) (nI (pw_h false false)) kc ks f0 a1 a2 a3 a4 a5 a6 := by
    rcases hb with ⟨rfl, b, hb, rfl⟩ | ⟨rfl, hb⟩
    · exact pw_287 hp m1 m2 hb false false (pw_F0 hb)
    · exact pw_287N hp m1 m2 hb
  rcases ha with ⟨rfl, a, ha, rfl⟩ | ⟨rfl, ha⟩
  · rcases hc with ⟨rfl, c, hc, rfl⟩ | ⟨rfl, hc⟩
    · refine pw_188I false false m1 ha hc hz K (Or.inr (Or.inr (Or.inr (Or.inr ⟨rfl, rfl, ?_⟩))))
      rcases pw_v01 (pw_0 a) c with e | e
      · exact e
      · have g := pw_t0 c hc
        have g2 : pw_t (pw_0 a) c = true := by
          unfold pw_t
          rw [e]
          rfl
        exact absurd (g2.symm.trans g) (by decide)
    · exact pw_188N false false true false (Or.inr ⟨rfl, hc⟩) hz K
  · exact pw_188N false false false pc (Or.inl ⟨rfl, ha⟩) hz K
theorem pw_put1 {Q : Int32 → St2 → Prop} {a b : Nat} (hA : pw_M a1 pw_0) (hB : pw_M a2 pw_0) (ha : a < 10) (hb : b < 10) (hab : a ≠ b)
    (hQ : ∀ a1' a2', pw_M a1' (pw_nA pw_0 pw_0 a b) → pw_M a2' (pw_nB pw_0 pw_0 a b) → Q 1 (f0, a1', a2', a3, a4, a5, a6)) :
    wpX_put Q (f0, a1, a2, a3, a4, a5, a6) (nI a) (nI b) := by
  refine pw_put hA hB ha hb hab (pw_t0 a ha) (fun a1' a2' m1 m2 => ?_)
  rw [(pw_G1 ha hb hab).1]
  exact hQ a1' a2' m1 m2
theorem pw_core1 (hp : post 1 ()) (hA : pw_M a1 pw_0) (hB : pw_M a2 pw_0) {a b : Nat} (ha : a < 10) (hb : b < 10) (hab : a ≠ b) (pc : Bool) (h : (pc = false ∧ pw_out x2) ∨ (pc = true ∧ x2 = nI b) ∨ (pc = true ∧ x2 = nI a)) {z0 z1 : Int32} :
    wL_lawOf_149 post mc ms (nI a) (nI b) x2 (pw_f true) (pw_f true) (pw_f pc) (pw_f true) (pw_f false) z0 z1 kc ks f0 a1 a2 a3 a4 a5 a6 := by
  obtain ⟨g1, g2, g3, g4, g5, g6⟩ := pw_G1 ha hb hab
  refine pw_149 (A1 := pw_nA pw_0 pw_0 a b) (B1 := pw_nB pw_0 pw_0 a b) (A2 := pw_nA pw_0 pw_0 a b) (B2 := pw_nB pw_0 pw_0 a b) true false (fun Q hQ => pw_put1 hA hB ha hb hab hQ) (fun a1 a2 m1 m2 Q hQ => ?_) (fun a1 a2 m1 m2 z0 z1 hz => ?_)
  · rcases h with ⟨_, h⟩ | ⟨_, h⟩ | ⟨_, h⟩
    · exact pw_putN (Or.inr (Or.inl h)) (hQ a1 a2 m1 m2)
    · exact pw_putN (Or.inr (Or.inr h.symm)) (hQ a1 a2 m1 m2)
    · rw [h]
      exact pw_putC m1 hb ha g4 (hQ a1 a2 m1 m2)
  · have K : wL_lawOf_287 post mc ms (nI b) (pw_f true) (pw_f true) (pw_f false) (nI (pw_h true false)) kc ks f0 a1 a2 a3 a4 a5 a6 := pw_287 hp m1 m2 hb true false g2
    rcases h with ⟨rfl, h⟩ | ⟨rfl, rfl⟩ | ⟨rfl, rfl⟩
    · exact pw_188N true false true false (Or.inr ⟨rfl, h⟩) hz K
    · exact pw_188I true false m1 ha hb hz K (Or.inr (Or.inl ⟨rfl, rfl, rfl, g5⟩))
    · exact pw_188I true false m1 ha ha hz K (Or.inr (Or.inr (Or.inl ⟨rfl, rfl, fun z => hab ((nI_eq (by omega) (by omega)).mp z), g6⟩)))
theorem pw_core2 (hp : post 1 ()) (hA : pw_M a1 pw_0) (hB : pw_M a2 pw_0) {b c : Nat} (hb : b < 10) (hc : c < 10) (hbc : b ≠ c) (pa : Bool) (h : (pa = false ∧ pw_out x0) ∨ (pa = true ∧ x0 = nI b)) {z0 z1 : Int32} (hz9 : z1 + z0 = 1) :
    wL_lawOf_149 post mc ms x0 (nI b) (nI c) (pw_f pa) (pw_f true) (pw_f true) (pw_f false) (pw_f true) z0 z1 kc ks f0 a1 a2 a3 a4 a5 a6 := by
  obtain ⟨g1, g2, g3, g4, g5, g6⟩ := pw_G1 hb hc hbc
  refine pw_149 (A1 := pw_0) (B1 := pw_0) (A2 := pw_nA pw_0 pw_0 b c) (B2 := pw_nB pw_0 pw_0 b c) false true (fun Q hQ => ?_) (fun a1 a2 m1 m2 Q hQ => ?_) (fun a1 a2 m1 m2 z0 z1 hz => ?_)
  · rcases h with ⟨_, h⟩ | ⟨_, h⟩
    · exact pw_putN (Or.inl h) (hQ a1 a2 hA hB)
    · exact pw_putN (Or.inr (Or.inr h)) (hQ a1 a2 hA hB)
  · rw [hz9] at hQ
    exact pw_put1 m1 m2 hb hc hbc hQ
  · have K : wL_lawOf_287 post mc ms (nI b) (pw_f true) (pw_f false) (pw_f true) (nI (pw_h false true)) kc ks f0 a1 a2 a3 a4 a5 a6 := pw_287 hp m1 m2 hb false true g3
    rcases h with ⟨rfl, h⟩ | ⟨rfl, rfl⟩
    · exact pw_188N false true false true (Or.inl ⟨rfl, h⟩) hz K
    · exact pw_188I false true m1 hb hc hz K (Or.inr (Or.inr (Or.inr (Or.inl ⟨rfl, rfl, rfl, fun z => hbc ((nI_eq (by omega) (by omega)).mp z), g5⟩))))
theorem pw_core3 (hp : post 1 ()) (hA : pw_M a1 pw_0) (hB : pw_M a2 pw_0) {a b c : Nat} (ha : a < 10) (hb : b < 10) (hc : c < 10) (hab : a ≠ b) (hbc : b ≠ c) (hac : a ≠ c) {z0 z1 : Int32} (hz9 : z1 + z0 = nI 3) :
    wL_lawOf_149 post mc ms (nI a) (nI b) (nI c) (pw_f true) (pw_f true) (pw_f true) (pw_f true) (pw_f true) z0 z1 kc ks f0 a1 a2 a3 a4 a5 a6 := by
  obtain ⟨g1, g2, g3, g4⟩ := pw_G3 ha hb hc hab hbc hac
  refine pw_149 (A1 := pw_nA pw_0 pw_0 a b) (B1 := pw_nB pw_0 pw_0 a b) (A2 := pw_cA a b c) (B2 := pw_cB a b c) true true (fun Q hQ => pw_put1 hA hB ha hb hab hQ) (fun a1 a2 m1 m2 Q hQ => ?_) (fun a1 a2 m1 m2 z0 z1 hz => ?_)
  · refine pw_put m1 m2 hb hc hbc g1 (fun a1' a2' m3 m4 => ?_)
    have e : pw_pr (pw_nA (pw_nA pw_0 pw_0 a b) (pw_nB pw_0 pw_0 a b) b c) 10 = 3 := g2
    rw [e, ← hz9]
    exact hQ a1' a2' m3 m4
  · have K : wL_lawOf_287 post mc ms (nI b) (pw_f true) (pw_f true) (pw_f true) (nI (pw_h true true)) kc ks f0 a1 a2 a3 a4 a5 a6 := pw_287 hp m1 m2 hb true true g3
    exact pw_188I true true m1 ha hc hz K (Or.inl ⟨rfl, rfl, g4⟩)
/-! the flags -/
theorem pw_nIe {a b : Nat} (ha : a < 10) (hb : b < 10) (h : a ≠ b) : decide (nI a = nI b) = false := decide_eq_false (fun z => h ((nI_eq (by omega) (by omega)).mp z))
theorem pw_nIt (a : Nat) : decide (nI a = nI a) = true := decide_eq_true rfl
theorem pw_top (hp : post 1 ()) (hA : pw_M a1 pw_0) (hB : pw_M a2 pw_0) (pa pb pc one two : Bool) (ha : pw_R x0 pa) (hb : pw_R x1 pb) (hc : pw_R x2 pc)
    (h1 : one = (pa && pb && !decide (x0 = x1))) (h2 : two = (pb && pc && !decide (x1 = x2) && !(one && decide (x2 = x0)))) :
    wL_lawOf_149 post mc ms x0 x1 x2 (pw_f pa) (pw_f pb) (pw_f pc) (pw_f one) (pw_f two) (pw_f (one && two)) (pw_f one + pw_f two) kc ks f0 a1 a2 a3 a4 a5 a6 := by
  have hb' := hb
  have ha' := ha
  have hc' := hc
  rcases hb with ⟨rfl, b, hb, rfl⟩ | ⟨rfl, hb⟩
  · rcases ha with ⟨rfl, a, ha, rfl⟩ | ⟨rfl, ha⟩
    · by_cases ab : a = b
      · subst ab
        rw [pw_nIt] at h1
        have h1' : one = false := h1
        subst h1'
        rcases hc with ⟨rfl, c, hc, rfl⟩ | ⟨rfl, hc⟩
        · by_cases bc : a = c
          · subst bc
            rw [pw_nIt] at h2
            have h2' : two = false := h2
            subst h2'
            exact pw_core0 hp hA hB true true true ha' hb' hc' (Or.inr (Or.inr rfl)) (Or.inr (Or.inr rfl))
          · rw [pw_nIe ha hc bc] at h2
            have h2' : two = true := h2
            subst h2'
            exact pw_core2 hp hA hB hb hc bc true (Or.inr ⟨rfl, rfl⟩) (by decide)
        · have h2' : two = false := h2
          subst h2'
          exact pw_core0 hp hA hB true true false ha' hb' hc' (Or.inr (Or.inr rfl)) (Or.inr (Or.inl hc))
      · rw [pw_nIe ha hb ab] at h1
        have h1' : one = true := h1
        subst h1'
        rcases hc with ⟨rfl, c, hc, rfl⟩ | ⟨rfl, hc⟩
        · by_cases bc : b = c
          · subst bc
            rw [pw_nIt] at h2
            have h2' : two = false := h2
            subst h2'
            exact pw_core1 hp hA hB ha hb ab true (Or.inr (Or.inl ⟨rfl, rfl⟩))
          · rw [pw_nIe hb hc bc] at h2
            by_cases ca : c = a
            · subst ca
              rw [pw_nIt] at h2
              have h2' : two = false := h2
              subst h2'
              exact pw_core1 hp hA hB ha hb ab true (Or.inr (Or.inr ⟨rfl, rfl⟩))
            · rw [pw_nIe hc ha ca] at h2
              have h2' : two = true := h2
              subst h2'
              exact pw_core3 hp hA hB ha hb hc ab bc (fun z => ca z.symm) (by decide)
        · have h2' : two = false := h2
          subst h2'
          exact pw_core1 hp hA hB ha hb ab false (Or.inl ⟨rfl, hc⟩)
    · have h1' : one = false := h1
      subst h1'
      rcases hc with ⟨rfl, c, hc, rfl⟩ | ⟨rfl, hc⟩
      · by_cases bc : b = c
        · subst bc
          rw [pw_nIt] at h2
          have h2' : two = false := h2
          subst h2'
          exact pw_core0 hp hA hB false true true ha' hb' hc' (Or.inl ha) (Or.inr (Or.inr rfl))
        · rw [pw_nIe hb hc bc] at h2
          have h2' : two = true := h2
          subst h2'
          exact pw_core2 hp hA hB hb hc bc false (Or.inl ⟨rfl, ha⟩) (by decide)
      · have h2' : two = false := h2
        subst h2'
        exact pw_core0 hp hA hB false true false ha' hb' hc' (Or.inl ha) (Or.inr (Or.inl hc))
  · have h1' : one = false := by
      rw [h1]
      cases pa <;> rfl
    have h2' : two = false := h2
    subst h1' h2'
    exact pw_core0 hp hA hB pa false pc ha' hb' hc' (Or.inr (Or.inl hb)) (Or.inl hb)
theorem pw_111 (one two : Bool) (H : wL_lawOf_149 post mc ms x0 x1 x2 x4 x5 x6 (pw_f one) (pw_f two) (pw_f (one && two)) (pw_f one + pw_f two) kc ks f0 a1 a2 a3 a4 a5 a6) :
    wL_lawOf_111 post mc ms x0 x1 x2 x4 x5 x6 (pw_f one) (pw_f two) kc ks f0 a1 a2 a3 a4 a5 a6 := by
  unfold wL_lawOf_111
  cases one <;> cases two
  · exact br_t rfl (br_t rfl (br_t rfl H))
  · exact br_t rfl (br_f pw_n10 (br_t rfl H))
  · exact br_f pw_n10 (br_t rfl (br_f pw_n10 (br_t rfl H)))
  · exact br_f pw_n10 (br_f pw_n10 (br_f pw_n10 (br_f pw_n10 H)))
theorem pw_79 (pb pc one two : Bool) (h : two = (pb && pc && !decide (x1 = x2) && !(one && decide (x2 = x0)))) (H : wL_lawOf_111 post mc ms x0 x1 x2 x4 (pw_f pb) (pw_f pc) (pw_f one) (pw_f two) kc ks f0 a1 a2 a3 a4 a5 a6) :
    wL_lawOf_79 post mc ms x0 x1 x2 x4 (pw_f pb) (pw_f pc) (pw_f one) kc ks f0 a1 a2 a3 a4 a5 a6 := by
  unfold wL_lawOf_79
  cases pb with
  | false =>
    have h' : two = false := h
    subst h'
    exact br_t rfl H
  | true =>
    refine br_f pw_n10 ?_
    cases pc with
    | false =>
      have h' : two = false := h
      subst h'
      exact br_t rfl H
    | true =>
      refine br_f pw_n10 ?_
      by_cases e : x1 = x2
      · rw [decide_eq_true e] at h
        have h' : two = false := h
        subst h'
        exact br_t e H
      · refine br_f e ?_
        rw [decide_eq_false e] at h
        cases one with
        | false =>
          have h' : two = true := h
          subst h'
          exact br_t rfl H
        | true =>
          refine br_f pw_n10 ?_
          by_cases g : x2 = x0
          · rw [decide_eq_true g] at h
            have h' : two = false := h
            subst h'
            exact br_t g H
          · rw [decide_eq_false g] at h
            have h' : two = true := h
            subst h'
            exact br_f g H
theorem pw_57 (pa pb one : Bool) (h : one = (pa && pb && !decide (x0 = x1))) {z0 : Int32} (H : wL_lawOf_79 post mc ms x0 x1 x2 (pw_f pa) (pw_f pb) z0 (pw_f one) kc ks f0 a1 a2 a3 a4 a5 a6) :
    wL_lawOf_57 post mc ms x0 x1 x2 (pw_f pa) (pw_f pb) z0 kc ks f0 a1 a2 a3 a4 a5 a6 := by
  unfold wL_lawOf_57
  cases pa with
  | false =>
    have h' : one = false := h
    subst h'
    exact br_t rfl H
  | true =>
    refine br_f pw_n10 ?_
    cases pb with
    | false =>
      have h' : one = false := h
      subst h'
      exact br_t rfl H
    | true =>
      refine br_f pw_n10 ?_
      by_cases e : x0 = x1
      · rw [decide_eq_true e] at h
        have h' : one = false := h
        subst h'
        exact br_t e H
      · rw [decide_eq_false e] at h
        have h' : one = true := h
        subst h'
        exact br_f e H
/-- a range check by the flag -/
theorem pw_flag {P Q R : Prop} {x : Int32} {p : Bool} (h : pw_R x p) (H0 : p = false → P) (H1 : p = false → Q) (H2 : p = true → R) : (x < 0 → P) ∧ (¬ x < 0 → ((9 < x → Q) ∧ (¬ 9 < x → R))) := by
  rcases h with ⟨e, a, ha, rfl⟩ | ⟨e, h⟩
  · exact br_f (nI_pos (by omega)) (br_f (pw_9 ha) (H2 e))
  · refine br_c (fun _ => H0 e) (fun z => br_t ?_ (H1 e))
    rcases h with h | h
    · exact absurd h z
    · exact h
theorem pw_40 (pc : Bool) (h : pw_R x2 pc) {z0 : Int32} (H : wL_lawOf_57 post mc ms x0 x1 x2 x4 z0 (pw_f pc) kc ks f0 a1 a2 a3 a4 a5 a6) : wL_lawOf_40 post mc ms x0 x1 x2 x4 z0 kc ks f0 a1 a2 a3 a4 a5 a6 := by
  unfold wL_lawOf_40
  refine pw_flag h (fun e => ?_) (fun e => ?_) (fun e => ?_)
  · subst e
    exact H
  · subst e
    exact H
  · subst e
    exact H
theorem pw_23 (pb : Bool) (h : pw_R x1 pb) {z0 : Int32} (H : wL_lawOf_40 post mc ms x0 x1 x2 z0 (pw_f pb) kc ks f0 a1 a2 a3 a4 a5 a6) : wL_lawOf_23 post mc ms x0 x1 x2 z0 kc ks f0 a1 a2 a3 a4 a5 a6 := by
  unfold wL_lawOf_23
  refine pw_flag h (fun e => ?_) (fun e => ?_) (fun e => ?_)
  · subst e
    exact H
  · subst e
    exact H
  · subst e
    exact H
end
theorem pw_flagE (x : Int32) : ∃ p, pw_R x p := by
  rcases pw_cases x with h | h
  · exact ⟨false, Or.inr ⟨rfl, h⟩⟩
  · exact ⟨true, Or.inl ⟨rfl, h⟩⟩
theorem pw_lawOf {post : Int32 → St0 → Prop} (hp : post 1 ()) (x0 x1 x2 : Int32) : wpL_lawOf post 48 752 () x0 x1 x2 := by
  obtain ⟨pa, ha⟩ := pw_flagE x0
  obtain ⟨pb, hb⟩ := pw_flagE x1
  obtain ⟨pc, hc⟩ := pw_flagE x2
  have m : pw_M (fun _ => 0) pw_0 := fun j _ => ⟨rfl, by show 0 < 1024; omega⟩
  unfold wpL_lawOf
  refine ⟨by omega, by omega, 6, 60, by omega, by omega, ?_⟩
  unfold wpX_init
  refine ⟨by omega, by omega, by omega, by omega, by omega, by omega, by omega, by omega, by omega, by omega, by omega, by omega, ?_⟩
  have K : wL_lawOf_23 post 48 752 x0 x1 x2 (pw_f pa) (1 + 6) (7 + 60) 0 (fun _ => 0) (fun _ => 0) (fun _ => 0) (fun _ => 0) (fun _ => 0) (fun _ => 0) :=
    pw_23 pb hb (pw_40 pc hc (pw_57 pa pb _ rfl (pw_79 pb pc _ _ rfl (pw_111 _ _ (pw_top hp m m pa pb pc _ _ ha hb hc rfl rfl)))))
  refine pw_flag ha (fun e => ?_) (fun e => ?_) (fun e => ?_)
  · subst e
    exact K
  · subst e
    exact K
  · subst e
    exact K
theorem pw_cell {Q : Int32 → Prop} {L : Nat} {xs : Nat → Int32} (hL : L ≤ 3) {k : Nat} (hk : k < 3) (H : ∀ r, Q r) : wpL_cellAt Q L xs () (nI k) :=
  pk_le L k (fun _ => H 0) (fun z => ⟨pk_in k L z, H _⟩)
theorem i_vc (xs : Nat → Int32) (L : Nat) (hL : L ≤ 3) : wpL_law (fun r => r = 1) L xs := by
  unfold wpL_law
  refine pw_cell (k := 0) hL (by omega) (fun r1 => pw_cell (k := 1) hL (by omega) (fun r2 => pw_cell (k := 2) hL (by omega) (fun r3 => ⟨48, 752, by omega, by omega, ?_⟩)))
  exact pw_lawOf rfl r1 r2 r3
end
