section
/-! marks: the support, the turned mark, the lowest bit, the clash of two marks -/
def fm_sp (x : Nat) : Nat := (x ||| (x >>> 8)) &&& 255
def fm_tn (x : Nat) : Nat := ((x &&& 255) <<< 8) ||| (x >>> 8)
def fm_lo (s : Nat) : Nat := s &&& (256 - s)
def fm_op (p q : Nat) : Nat := ((p ||| q) &&& ((p ||| q) >>> 8)) &&& 255
def fm_U : List Nat := [1, 2, 4, 8, 256, 512, 1024, 2048]
/-- four numbers as a function -/
def fm_f {α : Type} (a b c d : α) (j : Nat) : α := bif Nat.beq j 0 then a else bif Nat.beq j 1 then b else bif Nat.beq j 2 then c else d
/-- the sign of a unit mark's side: 0 zero, 1 positive, 2 negative -/
def fm_g (s : Nat → Nat) (x : Nat) : Nat :=
  bif Nat.beq x 1 then s 0 else bif Nat.beq x 2 then s 1 else bif Nat.beq x 4 then s 2 else bif Nat.beq x 8 then s 3 else
  bif Nat.beq x 256 then (3 - s 0) % 3 else bif Nat.beq x 512 then (3 - s 1) % 3 else bif Nat.beq x 1024 then (3 - s 2) % 3 else (3 - s 3) % 3
/-- the start list after i reactions -/
def fm_S (b : Nat → Nat) : Nat → List Nat
  | 0 => []
  | j + 1 => fm_S b j ++ (bif Nat.beq (b j) 0 then [2 ^ j] else [2 ^ j, 256 * 2 ^ j])
/-- p and q are combined -/
def fm_cd (g : Nat → Nat) (p q : Nat) : Bool := Nat.beq (g p) 1 && (Nat.beq (g q) 2 && Nat.beq (fm_op p q) 0)
/-- one row of combinations; all of them for the first rows -/
def fm_rw (g : Nat → Nat) (p : Nat) (Q : List Nat) : List Nat := (Q.filter (fm_cd g p)).map (fun q => p ||| q)
def fm_cb (g : Nat → Nat) (S : List Nat) (P : List Nat) : List Nat := P.flatMap (fun p => fm_rw g p S)
/-- the final list of marks -/
def fm_L (g : Nat → Nat) (S : List Nat) : List Nat := S.filter (fun x => Nat.beq (g x) 0) ++ fm_cb g S S
/-- a mark that makes a mode -/
def fm_kp (L : List Nat) (x : Nat) : Bool := !(L.any (fun y => Nat.beq y (fm_tn x))) || !(Nat.beq (x &&& fm_lo (fm_sp x)) 0)
def fm_K (L : List Nat) : List Nat := L.filter (fm_kp L)
/-! the law's own words -/
def fm_pr (s b : Nat → Nat) (j k : Nat) : Bool := !(Nat.beq k j) && (!(Nat.beq (s j) 0) && (!(Nat.beq (s k) 0) && ((Nat.beq (s j) 1 != Nat.beq (s k) 1) || !(Nat.beq (b j) 0 && Nat.beq (b k) 0))))
def fm_fw (s b : Nat → Nat) (j : Nat) : Nat → Bool
  | 0 => Nat.beq (s j) 0
  | k + 1 => fm_fw s b j k || (fm_pr s b j k && ((Nat.beq (s j) 1 != Nat.beq (s k) 1) || Nat.beq (b k) 1))
def fm_ct (s b : Nat → Nat) (j : Nat) : Nat → Nat
  | 0 => 0
  | k + 1 => fm_ct s b j k + (bif Nat.blt j k && fm_pr s b j k then 1 else 0)
def fm_n (s b : Nat → Nat) : Nat → Nat
  | 0 => 0
  | j + 1 => fm_n s b j + (bif Nat.beq (s j) 0 then 1 else 0) + fm_ct s b j 4
/-- the check of all that the law rests on, over the marks alone -/
def fm_c2 (s b : Nat → Nat) (L K : List Nat) (j k : Nat) : Bool :=
  (K.any (fun x => Nat.beq (fm_sp x) (2 ^ j ||| 2 ^ k)) == fm_pr s b j k) && K.all (fun x => !(Nat.beq (fm_sp x) (2 ^ j ||| 2 ^ k)) || (L.any (fun y => Nat.beq y (fm_tn x)) == (Nat.beq (b j) 1 && Nat.beq (b k) 1)))
def fm_c1 (s b : Nat → Nat) (L K : List Nat) (j : Nat) : Bool :=
  (K.any (fun x => Nat.beq (fm_sp x) (2 ^ j)) == Nat.beq (s j) 0) && (K.all (fun x => !(Nat.beq (fm_sp x) (2 ^ j)) || Nat.beq x (2 ^ j)) && ((L.any (fun x => !(Nat.beq (x &&& 2 ^ j) 0)) == fm_fw s b j 4) && (List.range 4).all (fun k => !(Nat.blt j k) || fm_c2 s b L K j k)))
def fm_c0 (s b : Nat → Nat) (L K : List Nat) : Bool :=
  Nat.beq K.length (fm_n s b 4) && (List.range 4).all (fun j => fm_c1 s b L K j)
def fm_ck (s b : Nat → Nat) : Bool := fm_c0 s b (fm_L (fm_g s) (fm_S b 4)) (fm_K (fm_L (fm_g s) (fm_S b 4)))
theorem fm_ra {n : Nat} {f : Nat → Bool} (h : (List.range n).all f = true) {i : Nat} (hi : i < n) : f i = true := List.all_eq_true.mp h i (List.mem_range.mpr hi)
/-- four digits below n -/
def fm_a4 (n : Nat) (f : Nat → Nat → Nat → Nat → Bool) : Bool := (List.range n).all (fun a => (List.range n).all (fun b => (List.range n).all (fun c => (List.range n).all (fun d => f a b c d))))
theorem fm_e4 {n : Nat} {f : Nat → Nat → Nat → Nat → Bool} (h : fm_a4 n f = true) {a b c d : Nat} (ha : a < n) (hb : b < n) (hc : c < n) (hd : d < n) : f a b c d = true :=
  fm_ra (f := fun d => f a b c d) (fm_ra (f := fun c => (List.range n).all (fun d => f a b c d)) (fm_ra (f := fun b => (List.range n).all (fun c => (List.range n).all (fun d => f a b c d))) (fm_ra (f := fun a => (List.range n).all (fun b => (List.range n).all (fun c => (List.range n).all (fun d => f a b c d)))) h ha) hb) hc) hd
theorem fm_al0 : fm_a4 3 (fun s0 s1 s2 s3 => fm_a4 2 (fun b0 b1 b2 b3 => fm_ck (fm_f s0 s1 s2 s3) (fm_f b0 b1 b2 b3))) = true := by decide +kernel
theorem fm_all {s0 s1 s2 s3 b0 b1 b2 b3 : Nat} (h0 : s0 < 3) (h1 : s1 < 3) (h2 : s2 < 3) (h3 : s3 < 3) (k0 : b0 < 2) (k1 : b1 < 2) (k2 : b2 < 2) (k3 : b3 < 2) : fm_ck (fm_f s0 s1 s2 s3) (fm_f b0 b1 b2 b3) = true :=
  fm_e4 (f := fun b0 b1 b2 b3 => fm_ck (fm_f s0 s1 s2 s3) (fm_f b0 b1 b2 b3)) (fm_e4 (f := fun s0 s1 s2 s3 => fm_a4 2 (fun b0 b1 b2 b3 => fm_ck (fm_f s0 s1 s2 s3) (fm_f b0 b1 b2 b3))) fm_al0 h0 h1 h2 h3) k0 k1 k2 k3
/-! the start list -/
/-- what a start list must have -/
def fm_ok (S : List Nat) : Prop := S.length ≤ 8 ∧ (∀ x, x ∈ S → x ∈ fm_U) ∧ ∀ i, i < S.length → ∀ k, k < S.length → S.getD i 0 = S.getD k 0 → i = k
def fm_okb (S : List Nat) : Bool := decide (S.length ≤ 8) && (S.all (fun x => decide (x ∈ fm_U)) && (List.range S.length).all (fun i => (List.range S.length).all (fun k => !(decide (S.getD i 0 = S.getD k 0)) || decide (i = k))))
theorem fm_okc {S : List Nat} (h : fm_okb S = true) : fm_ok S := by
  unfold fm_okb at h
  rw [Bool.and_eq_true, Bool.and_eq_true] at h
  refine ⟨of_decide_eq_true h.1, fun x hx => of_decide_eq_true (List.all_eq_true.mp h.2.1 x hx), fun i hi k hk e => ?_⟩
  have z := fm_ra (f := fun k => !(decide (S.getD i 0 = S.getD k 0)) || decide (i = k)) (fm_ra (f := fun i => (List.range S.length).all (fun k => !(decide (S.getD i 0 = S.getD k 0)) || decide (i = k))) h.2.2 hi) hk
  rw [Bool.or_eq_true] at z
  rcases z with z | z
  · rw [Bool.not_eq_true', decide_eq_false_iff_not] at z
    exact absurd e z
  · exact of_decide_eq_true z
theorem fm_s0 : fm_a4 2 (fun b0 b1 b2 b3 => fm_okb (fm_S (fm_f b0 b1 b2 b3) 4)) = true := by decide +kernel
theorem fm_sok {b0 b1 b2 b3 : Nat} (h0 : b0 < 2) (h1 : b1 < 2) (h2 : b2 < 2) (h3 : b3 < 2) : fm_ok (fm_S (fm_f b0 b1 b2 b3) 4) :=
  fm_okc (fm_e4 (f := fun b0 b1 b2 b3 => fm_okb (fm_S (fm_f b0 b1 b2 b3) 4)) fm_s0 h0 h1 h2 h3)
end
section
/-! lists -/
theorem fm_g1 {A B : List Nat} {k : Nat} (h : k < A.length) : (A ++ B).getD k 0 = A.getD k 0 := by
  simp [List.getD_eq_getElem?_getD, List.getElem?_append_left h]
theorem fm_g2 {A : List Nat} {x : Nat} : (A ++ [x]).getD A.length 0 = x := by
  simp [List.getD_eq_getElem?_getD]
theorem fm_g3 {A B : List Nat} {k : Nat} : (A ++ B).getD (A.length + k) 0 = B.getD k 0 := by
  rw [List.getD_eq_getElem?_getD, List.getD_eq_getElem?_getD, List.getElem?_append_right (Nat.le_add_right _ _), Nat.add_sub_cancel_left]
theorem fm_gm {A : List Nat} {k : Nat} (h : k < A.length) : A.getD k 0 ∈ A := by
  rw [List.getD_eq_getElem?_getD, List.getElem?_eq_getElem h]
  exact List.getElem_mem h
theorem fm_mg {A : List Nat} {x : Nat} (h : x ∈ A) : ∃ k, k < A.length ∧ A.getD k 0 = x := by
  obtain ⟨k, hk, e⟩ := List.getElem_of_mem h
  refine ⟨k, hk, ?_⟩
  rw [List.getD_eq_getElem?_getD, List.getElem?_eq_getElem hk]
  exact e
theorem fm_tk {A : List Nat} {k : Nat} (h : k < A.length) : A.take (k + 1) = A.take k ++ [A.getD k 0] := by
  induction A generalizing k with
  | nil => exact absurd h (Nat.not_lt_zero _)
  | cons a A ih =>
    cases k with
    | zero => rfl
    | succ k =>
      have h' : k < A.length := Nat.lt_of_succ_lt_succ h
      show a :: A.take (k + 1) = a :: (A.take k ++ [A.getD k 0])
      rw [ih h']
theorem fm_any {L : List Nat} {y : Nat} : L.any (fun z => Nat.beq z y) = true ↔ y ∈ L := by
  rw [List.any_eq_true]
  constructor
  · intro ⟨z, hz, e⟩
    rw [Nat.eq_of_beq_eq_true e] at hz
    exact hz
  · intro h
    exact ⟨y, h, Nat.beq_refl y⟩
/-! ints and bits -/
theorem fm_ix (k j : Nat) : (8 : Int32) * nI k + nI j = nI (8 * k + j) := by
  rw [show (8 : Int32) = nI 8 from rfl, pk_mul, nI_add]
theorem fm_and (a b : Nat) : nI a &&& nI b = nI (a &&& b) := by
  apply Int32.toBitVec_inj.1
  show BitVec.ofNat 32 a &&& BitVec.ofNat 32 b = BitVec.ofNat 32 (a &&& b)
  apply BitVec.eq_of_getLsbD_eq
  intro i hi
  simp [hi]
theorem fm_or (a b : Nat) : nI a ||| nI b = nI (a ||| b) := by
  apply Int32.toBitVec_inj.1
  show BitVec.ofNat 32 a ||| BitVec.ofNat 32 b = BitVec.ofNat 32 (a ||| b)
  apply BitVec.eq_of_getLsbD_eq
  intro i hi
  simp [hi]
theorem fm_shr {a : Nat} (h : a < 65536) : nI a >>> ((8 : Int32) &&& 31) = nI (a >>> 8) := by
  rw [pk_shrN (by omega) _ 8 (by decide), Nat.shiftRight_eq_div_pow]
theorem fm_shl {a : Nat} (h : a < 65536) : nI a <<< ((8 : Int32) &&& 31) = nI (a <<< 8) := by
  rw [pk_shlN _ 8 (by decide) (by omega), Nat.shiftLeft_eq]
theorem fm_orlt {a b : Nat} (ha : a < 65536) (hb : b < 65536) : a ||| b < 65536 := Nat.or_lt_two_pow (n := 16) ha hb
theorem fm_srlt {a : Nat} (h : a < 65536) : a >>> 8 < 65536 := by
  rw [Nat.shiftRight_eq_div_pow]
  omega
theorem fm_spI {x : Nat} (h : x < 65536) : (nI x ||| (nI x >>> ((8 : Int32) &&& 31))) &&& 255 = nI (fm_sp x) := by
  rw [fm_shr h, fm_or, show (255 : Int32) = nI 255 from rfl, fm_and]
  rfl
theorem fm_splt (x : Nat) : fm_sp x < 256 := Nat.and_lt_two_pow (n := 8) _ (by decide)
theorem fm_tnI {x : Nat} (h : x < 65536) : ((nI x &&& 255) <<< ((8 : Int32) &&& 31)) ||| (nI x >>> ((8 : Int32) &&& 31)) = nI (fm_tn x) := by
  have h8 : x &&& 255 < 256 := Nat.and_lt_two_pow (n := 8) _ (by decide)
  rw [fm_shr h, show (255 : Int32) = nI 255 from rfl, fm_and, fm_shl (by omega), fm_or]
  rfl
theorem fm_tnlt {x : Nat} (h : x < 65536) : fm_tn x < 65536 := by
  have h8 : x &&& 255 < 256 := Nat.and_lt_two_pow (n := 8) _ (by decide)
  refine fm_orlt ?_ (fm_srlt h)
  rw [Nat.shiftLeft_eq]
  omega
theorem fm_loI : ∀ s, s < 256 → nI s &&& (-nI s) = nI (fm_lo s) := by decide +kernel
theorem fm_lolt (s : Nat) (h : s < 256) : fm_lo s < 65536 := Nat.lt_of_le_of_lt Nat.and_le_left (by omega)
theorem fm_opI {p q : Nat} (hp : p < 65536) (hq : q < 65536) : ((nI p ||| nI q) &&& ((nI p ||| nI q) >>> ((8 : Int32) &&& 31))) &&& 255 = nI (fm_op p q) := by
  rw [fm_or, fm_shr (fm_orlt hp hq), fm_and, show (255 : Int32) = nI 255 from rfl, fm_and]
  rfl
theorem fm_oplt (p q : Nat) : fm_op p q < 256 := Nat.and_lt_two_pow (n := 8) _ (by decide)
theorem fm_Ult : ∀ x, x ∈ fm_U → x < 65536 := by decide
theorem fm_bit : ∀ j, j < 4 → (1 : Int32) <<< (nI j &&& 31) = nI (2 ^ j) ∧ (256 : Int32) <<< (nI j &&& 31) = nI (256 * 2 ^ j) := by decide +kernel
theorem fm_ngh : ∀ x, x ∈ fm_U → ∀ p, p ∈ fm_U → ∀ q, q ∈ fm_U → x ≠ p → x ≠ q → ¬ nI x &&& ((nI p ||| nI q) ^^^ (-1)) = 0 := by decide +kernel
end
section
/-! vectors -/
def fm_t (t : Nat) : Int32 := nI t - 3
def fm_u (x j : Nat) : Int32 := if x = 2 ^ j then 1 else if x = 256 * 2 ^ j then -1 else 0
def fm_sum (f : Nat → Int32) : Nat → Int32
  | 0 => 0
  | n + 1 => fm_sum f n + f n
def fm_gf (f : Nat → Int32) : Nat → Nat
  | 0 => 0
  | n + 1 => Nat.gcd (fm_gf f n) (f n).toInt.natAbs
def fm_q (g : Nat) (v : Int32) : Int32 := if g ≤ 1 then v else v / nI g
/-- the side of a unit mark -/
def fm_sd (c : Nat → Int32) (x : Nat) : Int32 := fm_sum (fun j => c j * fm_u x j) 4
/-- the sign of a number, coded -/
def fm_sc (v : Int32) : Nat := if v = 0 then 0 else if v ≤ 0 then 2 else 1
/-- a pair's vector is right for the balance -/
def fm_B (cj ck vj vk : Int32) : Prop := cj.toInt64 * vj.toInt64 + ck.toInt64 * vk.toInt64 = 0 ∧ ¬ vj = 0 ∧ -3 ≤ vj ∧ vj ≤ 3
/-- the vector v is right for the mark x -/
def fm_R (c : Nat → Int32) (x : Nat) (v : Nat → Int32) : Prop := (x ∈ fm_U → ∀ j, j < 8 → v j = fm_u x j) ∧ ∀ j k, j < 4 → k < 4 → j ≠ k → fm_sp x = 2 ^ j ||| 2 ^ k → fm_B (c j) (c k) (v j) (v k)
/-- the coefficients are small -/
def fm_C (c : Nat → Int32) : Prop := ∀ j, j < 4 → ∃ t, t < 7 ∧ c j = fm_t t
theorem fm_Rc {c : Nat → Int32} {x : Nat} {v w : Nat → Int32} (h : fm_R c x v) (e : ∀ j, j < 8 → w j = v j) : fm_R c x w := by
  refine ⟨fun hx j hj => by rw [e j hj]; exact h.1 hx j hj, fun j k hj hk n hs => ?_⟩
  rw [e j (by omega), e k (by omega)]
  exact h.2 j k hj hk n hs
/-- a unit mark has no pair's support -/
theorem fm_nU : ∀ x, x ∈ fm_U → ∀ j, j < 4 → ∀ k, k < 4 → j ≠ k → fm_sp x ≠ 2 ^ j ||| 2 ^ k := by decide +kernel
theorem fm_Ru {c : Nat → Int32} {x : Nat} {v : Nat → Int32} (hx : x ∈ fm_U) (h : ∀ j, j < 8 → v j = fm_u x j) : fm_R c x v :=
  ⟨fun _ => h, fun j k hj hk n hs => absurd hs (fm_nU x hx j hj k hk n)⟩
/-- a unit mark: its place, its sign, its side -/
theorem fm_un {c : Nat → Int32} {x : Nat} (hx : x ∈ fm_U) : ∃ j, j < 4 ∧ (x = 2 ^ j ∨ x = 256 * 2 ^ j) ∧ ∃ e : Int32, (e = 1 ∨ e = -1) ∧ fm_sd c x = c j * e ∧ ∀ i, i < 8 → fm_u x i = if i = j then e else 0 := by
  have D : ∀ y, y ∈ fm_U → ∃ j, j < 4 ∧ (y = 2 ^ j ∨ y = 256 * 2 ^ j) ∧ ∃ e, e ∈ [(1 : Int32), -1] ∧ (∀ i, i < 8 → fm_u y i = if i = j then e else 0) := by
    intro y hy
    simp only [fm_U, List.mem_cons, List.not_mem_nil, or_false] at hy
    rcases hy with rfl | rfl | rfl | rfl | rfl | rfl | rfl | rfl
    · exact ⟨0, by decide, by decide, 1, by decide, by decide⟩
    · exact ⟨1, by decide, by decide, 1, by decide, by decide⟩
    · exact ⟨2, by decide, by decide, 1, by decide, by decide⟩
    · exact ⟨3, by decide, by decide, 1, by decide, by decide⟩
    · exact ⟨0, by decide, by decide, -1, by decide, by decide⟩
    · exact ⟨1, by decide, by decide, -1, by decide, by decide⟩
    · exact ⟨2, by decide, by decide, -1, by decide, by decide⟩
    · exact ⟨3, by decide, by decide, -1, by decide, by decide⟩
  obtain ⟨j, hj, hx2, e, he, hu⟩ := D x hx
  simp only [List.mem_cons, List.not_mem_nil, or_false] at he
  refine ⟨j, hj, hx2, e, he, ?_, hu⟩
  have E : ∀ i, i < 4 → c i * fm_u x i = if i = j then c j * e else 0 := by
    intro i hi
    rw [hu i (by omega)]
    by_cases z : i = j
    · rw [if_pos z, if_pos z, z]
    · rw [if_neg z, if_neg z, Int32.mul_zero]
  show 0 + c 0 * fm_u x 0 + c 1 * fm_u x 1 + c 2 * fm_u x 2 + c 3 * fm_u x 3 = c j * e
  rw [E 0 (by omega), E 1 (by omega), E 2 (by omega), E 3 (by omega)]
  have h4 : j = 0 ∨ j = 1 ∨ j = 2 ∨ j = 3 := by omega
  rcases h4 with rfl | rfl | rfl | rfl <;> simp
/-- the sign of a side, by the table -/
theorem fm_scn : ∀ t, t < 7 → fm_sc (fm_t t * 1) = fm_sc (fm_t t) ∧ fm_sc (fm_t t * (-1)) = (3 - fm_sc (fm_t t)) % 3 := by decide +kernel
theorem fm_gs {c : Nat → Int32} (hc : fm_C c) {x : Nat} (hx : x ∈ fm_U) : fm_sc (fm_sd c x) = fm_g (fun j => fm_sc (c j)) x := by
  have G : ∀ j, j < 4 → fm_sc (c j * 1) = fm_sc (c j) ∧ fm_sc (c j * (-1)) = (3 - fm_sc (c j)) % 3 := by
    intro j hj
    obtain ⟨t, ht, e⟩ := hc j hj
    rw [e]
    exact fm_scn t ht
  have Z : ∀ v : Int32, v * 0 = 0 := fun v => Int32.mul_zero
  simp only [fm_U, List.mem_cons, List.not_mem_nil, or_false] at hx
  rcases hx with rfl | rfl | rfl | rfl | rfl | rfl | rfl | rfl
  · rw [show fm_sd c 1 = 0 + c 0 * 1 + c 1 * 0 + c 2 * 0 + c 3 * 0 from rfl]; simp only [Z, Int32.add_zero, Int32.zero_add]; exact (G 0 (by omega)).1
  · rw [show fm_sd c 2 = 0 + c 0 * 0 + c 1 * 1 + c 2 * 0 + c 3 * 0 from rfl]; simp only [Z, Int32.add_zero, Int32.zero_add]; exact (G 1 (by omega)).1
  · rw [show fm_sd c 4 = 0 + c 0 * 0 + c 1 * 0 + c 2 * 1 + c 3 * 0 from rfl]; simp only [Z, Int32.add_zero, Int32.zero_add]; exact (G 2 (by omega)).1
  · rw [show fm_sd c 8 = 0 + c 0 * 0 + c 1 * 0 + c 2 * 0 + c 3 * 1 from rfl]; simp only [Z, Int32.add_zero, Int32.zero_add]; exact (G 3 (by omega)).1
  · rw [show fm_sd c 256 = 0 + c 0 * (-1) + c 1 * 0 + c 2 * 0 + c 3 * 0 from rfl]; simp only [Z, Int32.add_zero, Int32.zero_add]; exact (G 0 (by omega)).2
  · rw [show fm_sd c 512 = 0 + c 0 * 0 + c 1 * (-1) + c 2 * 0 + c 3 * 0 from rfl]; simp only [Z, Int32.add_zero, Int32.zero_add]; exact (G 1 (by omega)).2
  · rw [show fm_sd c 1024 = 0 + c 0 * 0 + c 1 * 0 + c 2 * (-1) + c 3 * 0 from rfl]; simp only [Z, Int32.add_zero, Int32.zero_add]; exact (G 2 (by omega)).2
  · rw [show fm_sd c 2048 = 0 + c 0 * 0 + c 1 * 0 + c 2 * 0 + c 3 * (-1) from rfl]; simp only [Z, Int32.add_zero, Int32.zero_add]; exact (G 3 (by omega)).2
/-- the vector of a pair, before the division -/
def fm_fv (jp jq : Nat) (A B e e' : Int32) (l : Nat) : Int32 := A * (if l = jq then e' else 0) - B * (if l = jp then e else 0)
def fm_pc (jp jq tp tq : Nat) (e e' : Int32) : Bool :=
  let A := fm_t tp * e
  let B := fm_t tq * e'
  !(decide (0 < A)) || (!(decide (B < 0)) || (
    let G := fm_gf (fm_fv jp jq A B e e') 8
    let vp := fm_q G (fm_fv jp jq A B e e' jp)
    let vq := fm_q G (fm_fv jp jq A B e e' jq)
    decide ((fm_t tp).toInt64 * vp.toInt64 + (fm_t tq).toInt64 * vq.toInt64 = 0) && (decide ((fm_t tq).toInt64 * vq.toInt64 + (fm_t tp).toInt64 * vp.toInt64 = 0)
      && ((!(decide (vp = 0)) && (decide (-3 ≤ vp) && decide (vp ≤ 3))) && (!(decide (vq = 0)) && (decide (-3 ≤ vq) && decide (vq ≤ 3)))))
      && (List.range 8).all (fun l => decide (-60 ≤ (fm_fv jp jq A B e e' l).toInt) && decide ((fm_fv jp jq A B e e' l).toInt ≤ 60))))
def fm_pd (jp jq tp tq : Nat) : Bool := Nat.beq jp jq || (fm_pc jp jq tp tq 1 1 && (fm_pc jp jq tp tq 1 (-1) && (fm_pc jp jq tp tq (-1) 1 && fm_pc jp jq tp tq (-1) (-1))))
theorem fm_pc0 : (List.range 4).all (fun jp => (List.range 4).all (fun jq => (List.range 7).all (fun tp => (List.range 7).all (fun tq => fm_pd jp jq tp tq)))) = true := by decide +kernel
theorem fm_pca (jp : Nat) (h1 : jp < 4) (jq : Nat) (h2 : jq < 4) (hn : jp ≠ jq) (tp : Nat) (h3 : tp < 7) (tq : Nat) (h4 : tq < 7) : fm_pc jp jq tp tq 1 1 = true ∧ fm_pc jp jq tp tq 1 (-1) = true ∧ fm_pc jp jq tp tq (-1) 1 = true ∧ fm_pc jp jq tp tq (-1) (-1) = true := by
  have z := fm_ra (f := fun tq => fm_pd jp jq tp tq) (fm_ra (f := fun tp => (List.range 7).all (fun tq => fm_pd jp jq tp tq)) (fm_ra (f := fun jq => (List.range 7).all (fun tp => (List.range 7).all (fun tq => fm_pd jp jq tp tq))) (fm_ra (f := fun jp => (List.range 4).all (fun jq => (List.range 7).all (fun tp => (List.range 7).all (fun tq => fm_pd jp jq tp tq)))) fm_pc0 h1) h2) h3) h4
  unfold fm_pd at z
  rw [Bool.or_eq_true] at z
  rcases z with z | z
  · exact absurd (Nat.eq_of_beq_eq_true z) hn
  · simpa [Bool.and_eq_true] using z
/-- p, q, their union and its support -/
theorem fm_pq1 : ∀ p, p ∈ fm_U → ∀ q, q ∈ fm_U → fm_op p q = 0 → p ||| q ∈ fm_U → p = q := by decide +kernel
def fm_pqb (p q j k : Nat) : Bool := decide (fm_op p q = 0 → j ≠ k → fm_sp (p ||| q) = 2 ^ j ||| 2 ^ k → ((p = 2 ^ j ∨ p = 256 * 2 ^ j) ∧ (q = 2 ^ k ∨ q = 256 * 2 ^ k)) ∨ ((p = 2 ^ k ∨ p = 256 * 2 ^ k) ∧ (q = 2 ^ j ∨ q = 256 * 2 ^ j)))
theorem fm_pq2 : ∀ p, p ∈ fm_U → ∀ q, q ∈ fm_U → ∀ j, j < 4 → ∀ k, k < 4 → fm_pqb p q j k = true := by decide +kernel
theorem fm_inj : ∀ i, i < 4 → ∀ j, j < 4 → ∀ x, x ∈ fm_U → (x = 2 ^ i ∨ x = 256 * 2 ^ i) → (x = 2 ^ j ∨ x = 256 * 2 ^ j) → i = j := by decide +kernel
/-- two units on one place: a clash, or the same mark -/
theorem fm_opz : ∀ p, p ∈ fm_U → ∀ q, q ∈ fm_U → ∀ j, j < 4 → (p = 2 ^ j ∨ p = 256 * 2 ^ j) → (q = 2 ^ j ∨ q = 256 * 2 ^ j) → fm_op p q = 0 → p = q := by decide +kernel
/-- the pair's row is right for its mark -/
theorem fm_pcx {jp jq tp tq : Nat} {e e' : Int32} (h1 : jp < 4) (h2 : jq < 4) (hn : jp ≠ jq) (h3 : tp < 7) (h4 : tq < 7) (he : e = 1 ∨ e = -1) (he' : e' = 1 ∨ e' = -1) : fm_pc jp jq tp tq e e' = true := by
  have z := fm_pca jp h1 jq h2 hn tp h3 tq h4
  rcases he with rfl | rfl <;> rcases he' with rfl | rfl
  · exact z.1
  · exact z.2.1
  · exact z.2.2.1
  · exact z.2.2.2
theorem fm_pcy {jp jq tp tq : Nat} {e e' : Int32} (h : fm_pc jp jq tp tq e e' = true) (hA : 0 < fm_t tp * e) (hB : fm_t tq * e' < 0) :
    fm_B (fm_t tp) (fm_t tq) (fm_q (fm_gf (fm_fv jp jq (fm_t tp * e) (fm_t tq * e') e e') 8) (fm_fv jp jq (fm_t tp * e) (fm_t tq * e') e e' jp)) (fm_q (fm_gf (fm_fv jp jq (fm_t tp * e) (fm_t tq * e') e e') 8) (fm_fv jp jq (fm_t tp * e) (fm_t tq * e') e e' jq))
    ∧ fm_B (fm_t tq) (fm_t tp) (fm_q (fm_gf (fm_fv jp jq (fm_t tp * e) (fm_t tq * e') e e') 8) (fm_fv jp jq (fm_t tp * e) (fm_t tq * e') e e' jq)) (fm_q (fm_gf (fm_fv jp jq (fm_t tp * e) (fm_t tq * e') e e') 8) (fm_fv jp jq (fm_t tp * e) (fm_t tq * e') e e' jp))
    ∧ ∀ l, l < 8 → -60 ≤ (fm_fv jp jq (fm_t tp * e) (fm_t tq * e') e e' l).toInt ∧ (fm_fv jp jq (fm_t tp * e) (fm_t tq * e') e e' l).toInt ≤ 60 := by
  unfold fm_pc at h
  simp only [hA, hB, decide_true, Bool.not_true, Bool.false_or, Bool.and_eq_true, decide_eq_true_eq, Bool.not_eq_true', decide_eq_false_iff_not] at h
  obtain ⟨⟨g1, g2, ⟨g3, g4, g5⟩, g6, g7, g8⟩, g9⟩ := h
  refine ⟨⟨g1, g3, g4, g5⟩, ⟨g2, g6, g7, g8⟩, fun l hl => ?_⟩
  have z := List.all_eq_true.mp g9 l (List.mem_range.mpr hl)
  rw [Bool.and_eq_true] at z
  exact ⟨of_decide_eq_true z.1, of_decide_eq_true z.2⟩
/-- what combine writes, and that it is right -/
theorem fm_pr1 {c : Nat → Int32} (hc : fm_C c) {p q : Nat} (hp : p ∈ fm_U) (hq : q ∈ fm_U) (ho : fm_op p q = 0) (hA : 0 < fm_sd c p) (hB : fm_sd c q < 0) :
    (∀ l, l < 8 → -60 ≤ (fm_sd c p * fm_u q l - fm_sd c q * fm_u p l).toInt ∧ (fm_sd c p * fm_u q l - fm_sd c q * fm_u p l).toInt ≤ 60)
    ∧ ∀ v : Nat → Int32, (∀ l, l < 8 → v l = fm_q (fm_gf (fun l => fm_sd c p * fm_u q l - fm_sd c q * fm_u p l) 8) (fm_sd c p * fm_u q l - fm_sd c q * fm_u p l)) → fm_R c (p ||| q) v := by
  obtain ⟨jp, hjp, hp2, e, he, sp, up⟩ := fm_un (c := c) hp
  obtain ⟨jq, hjq, hq2, e', he', sq, uq⟩ := fm_un (c := c) hq
  obtain ⟨tp, htp, cp⟩ := hc jp hjp
  obtain ⟨tq, htq, cq⟩ := hc jq hjq
  have hne : ¬ p = q := by
    intro z
    rw [z] at hA
    rw [Int32.lt_iff_toInt_lt] at hA hB
    omega
  have hn : jp ≠ jq := by
    intro z
    rw [z] at hp2
    exact hne (fm_opz p hp q hq jq hjq hp2 hq2 ho)
  rw [sp, cp] at hA
  rw [sq, cq] at hB
  obtain ⟨b1, b2, b3⟩ := fm_pcy (fm_pcx hjp hjq hn htp htq he he') hA hB
  have F : ∀ l, l < 8 → fm_sd c p * fm_u q l - fm_sd c q * fm_u p l = fm_fv jp jq (fm_t tp * e) (fm_t tq * e') e e' l := by
    intro l hl
    rw [sp, sq, cp, cq, up l hl, uq l hl]
    rfl
  have GF : ∀ n, n ≤ 8 → fm_gf (fun l => fm_sd c p * fm_u q l - fm_sd c q * fm_u p l) n = fm_gf (fm_fv jp jq (fm_t tp * e) (fm_t tq * e') e e') n := by
    intro n
    induction n with
    | zero => intro _; rfl
    | succ n ih =>
      intro hn
      show Nat.gcd (fm_gf _ n) _ = Nat.gcd (fm_gf _ n) _
      rw [ih (by omega)]
      dsimp only
      rw [F n (by omega)]
  refine ⟨fun l hl => by rw [F l hl]; exact b3 l hl, fun v hv => ⟨fun hU => absurd (fm_pq1 p hp q hq ho hU) hne, fun j k hj hk njk hs => ?_⟩⟩
  have V : ∀ l, l < 8 → v l = fm_q (fm_gf (fm_fv jp jq (fm_t tp * e) (fm_t tq * e') e e') 8) (fm_fv jp jq (fm_t tp * e) (fm_t tq * e') e e' l) := by
    intro l hl
    rw [hv l hl, GF 8 (by omega), F l hl]
  rcases of_decide_eq_true (fm_pq2 p hp q hq j hj k hk) ho njk hs with ⟨z1, z2⟩ | ⟨z1, z2⟩
  · have e1 := fm_inj jp hjp j hj p hp hp2 z1
    have e2 := fm_inj jq hjq k hk q hq hq2 z2
    subst e1 e2
    rw [V jp (by omega), V jq (by omega), cp, cq]
    exact b1
  · have e1 := fm_inj jp hjp k hk p hp hp2 z1
    have e2 := fm_inj jq hjq j hj q hq hq2 z2
    subst e1 e2
    rw [V jp (by omega), V jq (by omega), cp, cq]
    exact b2
end
section
/-! filling rows -/
theorem fm_fil {s f : Nat → Int32} {B i k : Nat} {x : Int32} (hk : k = B + i) (h : ∀ l, l < i → s (B + l) = f l) (hx : x = f i) : ∀ l, l < i + 1 → upd s k x (B + l) = f l := by
  intro l hl
  rw [hk]
  by_cases e : l = i
  · rw [e, pk_us, hx]
  · rw [pk_un (by omega)]
    exact h l (by omega)
theorem fm_kee {s a : Nat → Int32} {B i k : Nat} {x : Int32} (hk : k = B + i) (h : ∀ l, l < B → s l = a l) : ∀ l, l < B → upd s k x l = a l := by
  intro l hl
  rw [hk, pk_un (by omega)]
  exact h l hl
theorem fm_fl0 {s f : Nat → Int32} {i k : Nat} {x : Int32} (hk : k = i) (h : ∀ l, l < i → s l = f l) (hx : x = f i) : ∀ l, l < i + 1 → upd s k x l = f l := by
  intro l hl
  rw [hk]
  by_cases e : l = i
  · rw [e, pk_us, hx]
  · rw [pk_un e]
    exact h l (by omega)
section
variable {post : St2 → Prop} {m r rays mc cur : Int32} {a1 a2 a3 a4 a5 a6 a7 a8 : Nat → Int32}
/-- the constructor -/
theorem fm_init (H : ∀ a, (∀ j, j < 8 → a j = 1) → post (1, 4, 0, 0, 0, (fun _ => 0), (fun _ => 0), a, (fun _ => 0), (fun _ => 0), (fun _ => 0), (fun _ => 0), (fun _ => 0))) : wpX_init post 8 3648 (0, 0, 0, 0, 0) 1 4 := by
  have Q : ∃ n, wX_init_131 post 8 3648 8 3648 1 4 0 0 0 n 0 (fun _ => 0) (fun _ => 0) (fun _ => 0) (fun _ => 0) (fun _ => 0) (fun _ => 0) (fun _ => 0) (fun _ => 0) :=
    pk_loop (fun n i s => wX_init_131 post 8 3648 8 3648 1 4 0 0 0 n (nI i) (fun _ => 0) (fun _ => 0) s (fun _ => 0) (fun _ => 0) (fun _ => 0) (fun _ => 0) (fun _ => 0)) (fun i s => ∀ j, j < i → s j = (fun _ => (1 : Int32)) j) 8 0 (fun _ => 0) (by omega) (fun j hj => absurd hj (by omega))
      (fun n s h => pk_le 8 8 (fun _ => H s h) (fun z => absurd z (by omega)))
      (fun n i s hi h hw => pk_le 8 i (fun z => absurd z (by omega)) (fun _ => ⟨pk_in i 8 hi, nm_e (nm_r (nI_1 i) (hw _ (fm_fl0 (nI_clamp (by omega)) h rfl)))⟩))
  exact ⟨by omega, by omega, by omega, by omega, by omega, by omega, by omega, by omega, by omega, by omega, by omega, by omega, by omega, by omega, by omega, by omega, br_t (by decide) (br_t (by decide) (br_t (by decide) (br_t (by decide) Q)))⟩
/-- set, in range -/
theorem fm_set {post : Int32 → St2 → Prop} {j : Nat} {v : Int32} (hj : j < 4) (h1 : ¬ v < -3) (h2 : v ≤ 3) (H : post 0 (1, 4, rays, mc, 0, upd a1 j v, a2, a3, a4, a5, a6, a7, a8)) :
    wpX_set post (1, 4, rays, mc, cur, a1, a2, a3, a4, a5, a6, a7, a8) 0 (nI j) v :=
  br_f (by decide) (br_f (by decide) (br_f (by decide) (br_f (nI_pos (by omega)) (br_f (nI_ge (b := 4) hj (by decide)) (br_f (by decide) (br_f h1 (br_t h2 ⟨pk_in j 32 (by omega) (by rw [show (0 : Int32) = nI 0 from rfl, fm_ix]; congr 1; omega), nm_r (by rw [show (0 : Int32) = nI 0 from rfl, fm_ix, nI_clamp (by omega), show 8 * 0 + j = j by omega]) H⟩)))))))
/-- twoWay, in range -/
theorem fm_two {post : Int32 → St2 → Prop} {j b : Nat} {v : Int32} (hj : j < 4) (hb : b < 2) (hv : v = nI b) (H : ∀ z, post z (1, 4, rays, mc, 0, a1, upd a2 j (nI b), a3, a4, a5, a6, a7, a8)) :
    wpX_twoWay post (1, 4, rays, mc, cur, a1, a2, a3, a4, a5, a6, a7, a8) (nI j) v := by
  subst hv
  have K : ∀ z, wX_twoWay_24 post (nI j) (nI b) z 1 4 rays mc cur a1 a2 a3 a4 a5 a6 a7 a8 := by
    intro z
    have h2 : b = 0 ∨ b = 1 := by omega
    rcases h2 with rfl | rfl
    · exact br_t rfl ⟨pk_in j 8 (by omega), nm_r (by rw [nI_clamp (by omega)]; rfl) (H z)⟩
    · exact br_f (by decide) ⟨pk_in j 8 (by omega), nm_r (by rw [nI_clamp (by omega)]; rfl) (H z)⟩
  exact br_f (nI_pos (by omega)) (br_f (nI_ge (b := 4) hj (by decide)) (br_f (by decide) ⟨pk_in j 8 (by omega), br_c (fun _ => K 0) (fun _ => K 1)⟩))
/-- addUnit -/
theorem fm_add {j R x : Nat} {sg : Int32} (hR : R < 300) (hj : j < 4)
    (hx1 : sg ≤ 0 → (256 : Int32) <<< (nI j &&& 31) = nI x) (hx2 : ¬ sg ≤ 0 → (1 : Int32) <<< (nI j &&& 31) = nI x)
    (H : ∀ a, (∀ i, i < 8 * R → a i = a4 i) → (∀ i, i < 8 → a (8 * R + i) = if i = j then sg else 0) → post (m, r, nI (R + 1), mc, cur, a1, a2, a3, a, upd a5 R (nI x), a6, a7, a8)) :
    wpX_addUnit post (m, r, nI R, mc, cur, a1, a2, a3, a4, a5, a6, a7, a8) (nI j) sg :=
  pk_loop (fun n i s => wX_addUnit_2 post (nI j) sg m r (nI R) mc cur n (nI i) a1 a2 a3 s a5 a6 a7 a8)
    (fun i s => (∀ l, l < 8 * R → s l = a4 l) ∧ (∀ l, l < i → s (8 * R + l) = (fun i => if i = j then sg else 0) l)) 8 0 a4 (by omega) ⟨fun _ _ => rfl, fun l hl => absurd hl (by omega)⟩
    (fun n s h => pk_le 8 8 (fun _ => br_c
        (fun z => ⟨pk_in R 300 hR, nm_r (by rw [nI_clamp (by omega), hx1 z]) (nm_r (nI_1 R) (H s h.1 h.2))⟩)
        (fun z => ⟨pk_in R 300 hR, nm_r (by rw [nI_clamp (by omega), hx2 z]) (nm_r (nI_1 R) (H s h.1 h.2))⟩)) (fun z => absurd z (by omega)))
    (fun n i s hi h hw => pk_le 8 i (fun z => absurd z (by omega)) (fun _ => pk_eq i j
        (fun e => ⟨pk_in (8 * R + i) 2400 (by omega) (fm_ix R i), nm_r (by rw [fm_ix, nI_clamp (by omega)]) (nm_r (nI_1 i) (hw (upd s (8 * R + i) sg) ⟨fm_kee rfl h.1, fm_fil rfl h.2 (if_pos e).symm⟩))⟩)
        (fun e => ⟨pk_in (8 * R + i) 2400 (by omega) (fm_ix R i), nm_r (by rw [fm_ix, nI_clamp (by omega)]) (nm_r (nI_1 i) (hw (upd s (8 * R + i) 0) ⟨fm_kee rfl h.1, fm_fil rfl h.2 (if_neg e).symm⟩))⟩)))
/-- weigh: one ray -/
theorem fm_w15 {J : Int32 → (Nat → Int32) → (Nat → Int32) → (Nat → Int32) → (Nat → Int32) → (Nat → Int32) → (Nat → Int32) → (Nat → Int32) → (Nat → Int32) → Prop} {k : Nat} (hk : k < 300)
    (H : J (nI (k + 1)) a1 a2 a3 a4 a5 (upd a6 k (fm_sum (fun j => a1 j * a4 (8 * k + j)) 4)) a7 a8) : ∃ n, wX_weigh_15 post J 0 (nI k) m 4 rays mc cur a1 a2 a3 a4 a5 a6 a7 a8 n 0 0 :=
  pk_loop (fun n i s => wX_weigh_15 post J 0 (nI k) m 4 rays mc cur a1 a2 a3 a4 a5 a6 a7 a8 n s (nI i)) (fun i s => s = fm_sum (fun j => a1 j * a4 (8 * k + j)) i) 4 0 0 (by omega) rfl
    (fun n s h => pk_le 4 4 (fun _ => ⟨pk_in k 300 hk, nm_r (by rw [nI_clamp (by omega), h]) (nm_r (nI_1 k) H)⟩) (fun z => absurd z (by omega)))
    (fun n i s hi h hw => pk_le 4 i (fun z => absurd z (by omega)) (fun _ => ⟨pk_in i 32 (by omega) (by rw [show (0 : Int32) = nI 0 from rfl, fm_ix]; congr 1; omega), pk_in (8 * k + i) 2400 (by omega) (fm_ix k i),
        nm_r (by rw [show (0 : Int32) = nI 0 from rfl, fm_ix, fm_ix, nI_clamp (by omega), nI_clamp (by omega), show 8 * 0 + i = i by omega]) (nm_r (nI_1 i) (hw (s + a1 i * a4 (8 * k + i)) (by rw [h]; rfl)))⟩))
theorem fm_wei {R : Nat} (hR : R < 300) (H : ∀ a, (∀ k, k < R → a k = fm_sum (fun j => a1 j * a4 (8 * k + j)) 4) → post (m, 4, nI R, mc, cur, a1, a2, a3, a4, a5, a, a7, a8)) :
    wpX_weigh post (m, 4, nI R, mc, cur, a1, a2, a3, a4, a5, a6, a7, a8) 0 :=
  pk_loop (fun n i s => wX_weigh_2 post 0 m 4 (nI R) mc cur n (nI i) a1 a2 a3 a4 a5 s a7 a8) (fun i s => ∀ k, k < i → s k = (fun k => fm_sum (fun j => a1 j * a4 (8 * k + j)) 4) k) R 0 a6 (by omega) (fun k hk => absurd hk (by omega))
    (fun n s h => pk_le R R (fun _ => H s h) (fun z => absurd z (by omega)))
    (fun n i s hi h hw => pk_le R i (fun z => absurd z (by omega)) (fun _ => fm_w15 (by omega) (hw _ (fm_fl0 rfl h rfl))))
end
end
section
/-- the rays are the marks L, each with a right row -/
def fm_V (c : Nat → Int32) (L : List Nat) (a4 a5 : Nat → Int32) : Prop := ∀ k, k < L.length → a5 k = nI (L.getD k 0) ∧ fm_R c (L.getD k 0) (fun j => a4 (8 * k + j))
theorem fm_V0 {c : Nat → Int32} {a4 a5 : Nat → Int32} : fm_V c [] a4 a5 := fun k hk => absurd hk (Nat.not_lt_zero k)
theorem fm_Va {c : Nat → Int32} {L : List Nat} {a4 a5 a : Nat → Int32} {x : Nat} {R : Nat} (hR : R = L.length) (h : fm_V c L a4 a5) (hk : ∀ i, i < 8 * R → a i = a4 i) (hx : fm_R c x (fun j => a (8 * R + j))) : fm_V c (L ++ [x]) a (upd a5 R (nI x)) := by
  subst hR
  intro k hkl
  rw [List.length_append] at hkl
  have hkl : k < L.length + 1 := hkl
  by_cases e : k = L.length
  · rw [e, fm_g2, pk_us]
    exact ⟨rfl, hx⟩
  · have hk2 : k < L.length := by omega
    rw [fm_g1 hk2, pk_un e]
    exact ⟨(h k hk2).1, fm_Rc (h k hk2).2 (fun j hj => hk _ (by omega))⟩
theorem fm_Sl (b : Nat → Nat) (i : Nat) : (fm_S b i).length ≤ 2 * i := by
  induction i with
  | zero => exact Nat.le_refl 0
  | succ i ih =>
    show (fm_S b i ++ (bif Nat.beq (b i) 0 then [2 ^ i] else [2 ^ i, 256 * 2 ^ i])).length ≤ 2 * (i + 1)
    rw [List.length_append]
    cases Nat.beq (b i) 0
    · show _ + 2 ≤ _
      omega
    · show _ + 1 ≤ _
      omega
theorem fm_S1 {b : Nat → Nat} {i : Nat} (h : b i = 0) : fm_S b (i + 1) = fm_S b i ++ [2 ^ i] := by
  show fm_S b i ++ (bif Nat.beq (b i) 0 then [2 ^ i] else [2 ^ i, 256 * 2 ^ i]) = _
  rw [h]
  rfl
theorem fm_S2 {b : Nat → Nat} {i : Nat} (h : b i = 1) : fm_S b (i + 1) = (fm_S b i ++ [2 ^ i]) ++ [256 * 2 ^ i] := by
  show fm_S b i ++ (bif Nat.beq (b i) 0 then [2 ^ i] else [2 ^ i, 256 * 2 ^ i]) = _
  rw [h, List.append_assoc]
  rfl
theorem fm_uv : ∀ i, i < 4 → 2 ^ i ∈ fm_U ∧ 256 * 2 ^ i ∈ fm_U ∧ ∀ j, j < 8 → fm_u (2 ^ i) j = (if j = i then 1 else 0) ∧ fm_u (256 * 2 ^ i) j = (if j = i then -1 else 0) := by decide +kernel
section
variable {post : St2 → Prop} {m r rays mc cur : Int32} {a1 a2 a3 a4 a5 a6 a7 a8 : Nat → Int32}
theorem fm_sta {c : Nat → Int32} {b : Nat → Nat} (hb : ∀ j, j < 4 → b j < 2) (h2 : ∀ j, j < 4 → a2 j = nI (b j)) (h3 : ∀ j, j < 4 → a3 j = 1)
    (H : ∀ a a', fm_V c (fm_S b 4) a a' → post (1, 4, nI (fm_S b 4).length, mc, cur, a1, a2, a3, a, a', a6, a7, a8)) :
    wpX_start post (1, 4, rays, mc, cur, a1, a2, a3, a4, a5, a6, a7, a8) := by
  refine pk_loop (fun n i s => wX_start_7 post n (nI i) 1 4 (nI (fm_S b i).length) mc cur a1 a2 a3 s.1 s.2 a6 a7 a8) (fun i s => fm_V c (fm_S b i) s.1 s.2) 4 0 (a4, a5) (by omega) fm_V0
    (fun n s h => pk_le 4 4 (fun _ => H s.1 s.2 h) (fun z => absurd z (by omega))) ?_
  intro n i s hi h hw
  have hl := fm_Sl b i
  obtain ⟨s1, s2⟩ := s
  refine pk_le 4 i (fun z => absurd z (by omega)) (fun _ => ⟨pk_in i 8 (by omega), br_f ?_ ?_⟩)
  · rw [nI_clamp (by omega), h3 i hi]
    decide
  · refine fm_add (x := 2 ^ i) (by omega) hi (fun z => absurd z (by decide)) (fun _ => (fm_bit i hi).1) (fun a ha1 ha2 => ⟨pk_in i 8 (by omega), ?_⟩)
    have V1 : fm_V c (fm_S b i ++ [2 ^ i]) a (upd s2 (fm_S b i).length (nI (2 ^ i))) :=
      fm_Va rfl h ha1 (fm_Ru (fm_uv i hi).1 (fun j hj => by rw [ha2 j hj, ((fm_uv i hi).2.2 j hj).1]))
    have hb2 : b i = 0 ∨ b i = 1 := by have := hb i hi; omega
    rcases hb2 with e | e
    · have t := hw (a, upd s2 (fm_S b i).length (nI (2 ^ i))) (by rw [fm_S1 e]; exact V1)
      dsimp only at t
      rw [fm_S1 e, List.length_append] at t
      exact br_t (by rw [nI_clamp (by omega), h2 i hi, e]; rfl) (nm_r (nI_1 i) t)
    · refine br_f (by rw [nI_clamp (by omega), h2 i hi, e]; decide) ?_
      refine fm_add (x := 256 * 2 ^ i) (by omega) hi (fun _ => (fm_bit i hi).2) (fun z => absurd (by decide) z) (fun a' hb1 hb2 => nm_r (nI_1 i) ?_)
      have t := hw (a', upd (upd s2 (fm_S b i).length (nI (2 ^ i))) ((fm_S b i).length + 1) (nI (256 * 2 ^ i))) (by
        rw [fm_S2 e]
        exact fm_Va (by rw [List.length_append]; rfl) V1 hb1 (fm_Ru (fm_uv i hi).2.1 (fun j hj => by dsimp only; rw [hb2 j hj, ((fm_uv i hi).2.2 j hj).2])))
      dsimp only at t
      rw [fm_S2 e, List.length_append, List.length_append] at t
      exact t
end
end
section
/-! divisor -/
theorem fm_d25 {post : Int32 → Prop} : ∀ (n x y k : Nat), x < 2 ^ 31 → y < n → y + k ≤ 63 → post (nI (Nat.gcd x y)) → wX_divisor_25 post n (nI x) (nI y) (nI k) := by
  intro n
  induction n with
  | zero => intro x y k _ hy _ _; exact absurd hy (Nat.not_lt_zero y)
  | succ n ih =>
    intro x y k hx hy hk H
    refine pk_le 64 k (fun z => absurd z (by omega)) (fun _ => pk_eq y 0 (fun e => ?_) (fun e => ⟨nI_ne0 (by omega) (by omega), nm_r (pk_rem hx (by omega) (by omega)) (nm_r (nI_1 k) ?_)⟩))
    · rw [e, Nat.gcd_zero_right] at H
      exact H
    · have hlt : x % y < y := Nat.mod_lt _ (by omega)
      refine ih y (x % y) (k + 1) (by omega) (by omega) (by omega) ?_
      rw [Nat.gcd_comm, ← Nat.gcd_rec, Nat.gcd_comm]
      exact H
theorem fm_abs {v : Int32} (h1 : -60 ≤ v.toInt) (h2 : v.toInt ≤ 60) : (0 ≤ v ∧ v = nI v.toInt.natAbs) ∨ (¬ 0 ≤ v ∧ -v = nI v.toInt.natAbs) := by
  have h0 : (0 : Int32).toInt = 0 := by decide
  by_cases h : 0 ≤ v.toInt
  · refine Or.inl ⟨by rw [Int32.le_iff_toInt_le, h0]; exact h, Int32.toInt_inj.mp ?_⟩
    rw [nI_toInt (by omega)]
    omega
  · refine Or.inr ⟨by rw [Int32.le_iff_toInt_le, h0]; exact h, ?_⟩
    have e : v = -nI v.toInt.natAbs := by
      apply Int32.toInt_inj.mp
      rw [sb_negT (by omega)]
      omega
    have e2 : -v = - -nI v.toInt.natAbs := by rw [← e]
    rw [e2, Int32.neg_neg]
theorem fm_dv {post : Int32 → Prop} {g : Nat} {v : Int32} (hg : g < 2 ^ 31) (h1 : -60 ≤ v.toInt) (h2 : v.toInt ≤ 60) (H : post (nI (Nat.gcd g v.toInt.natAbs))) : wpX_divisor post () (nI g) v := by
  have hn : v.toInt.natAbs ≤ 60 := by omega
  have D : ∃ n, wX_divisor_25 post n (nI g) (nI v.toInt.natAbs) 0 := ⟨64, fm_d25 64 g v.toInt.natAbs 0 hg (by omega) (by omega) H⟩
  refine br_t (nI_pos' hg) ?_
  rcases fm_abs h1 h2 with ⟨z, e⟩ | ⟨z, e⟩
  · refine br_t z ?_
    rw [← e] at D
    exact D
  · exact br_f z (nm_r e D)
theorem fm_gfb {f : Nat → Int32} (hb : ∀ l, l < 8 → -60 ≤ (f l).toInt ∧ (f l).toInt ≤ 60) : ∀ n, n ≤ 8 → fm_gf f n ≤ 60 := by
  intro n
  induction n with
  | zero => intro _; exact Nat.zero_le _
  | succ n ih =>
    intro hn
    have h1 := ih (by omega)
    have h2 := hb n (by omega)
    show Nat.gcd (fm_gf f n) (f n).toInt.natAbs ≤ 60
    by_cases e : (f n).toInt.natAbs = 0
    · rw [e, Nat.gcd_zero_right]
      exact h1
    · have := Nat.gcd_le_right (fm_gf f n) (n := (f n).toInt.natAbs) (by omega)
      omega
section
variable {post : St2 → Prop} {m r rays mc cur : Int32} {a1 a2 a3 a4 a5 a6 a7 a8 : Nat → Int32}
/-- combine: its end -/
theorem fm_c147 {R i k : Nat} (hR : R < 300) (hi : i < R) (hk : k < R) (H : post (m, r, nI (R + 1), mc, cur, a1, a2, a3, a4, upd a5 R (a5 i ||| a5 k), a6, a7, a8)) : wX_combine_147 post (nI i) (nI k) m r (nI R) mc cur a1 a2 a3 a4 a5 a6 a7 a8 :=
  ⟨pk_in i 300 (by omega), pk_in k 300 (by omega), pk_in R 300 hR, nm_r (by rw [nI_clamp (by omega), nI_clamp (by omega), nI_clamp (by omega)]) (nm_r (nI_1 R) H)⟩
/-- combine: the division -/
theorem fm_c102 {R i k g : Nat} {f : Nat → Int32} (hR : R < 300) (hi : i < R) (hk : k < R) (hg : 1 < g) (hg2 : g ≤ 60) (hf : ∀ l, l < 8 → a4 (8 * R + l) = f l)
    (H : ∀ a, (∀ l, l < 8 * R → a l = a4 l) → (∀ l, l < 8 → a (8 * R + l) = f l / nI g) → post (m, r, nI (R + 1), mc, cur, a1, a2, a3, a, upd a5 R (a5 i ||| a5 k), a6, a7, a8)) :
    ∃ n, wX_combine_102 post (nI i) (nI k) (nI g) m r (nI R) mc cur n 0 a1 a2 a3 a4 a5 a6 a7 a8 :=
  pk_loop (fun n j s => wX_combine_102 post (nI i) (nI k) (nI g) m r (nI R) mc cur n (nI j) a1 a2 a3 s a5 a6 a7 a8)
    (fun j s => (∀ l, l < 8 * R → s l = a4 l) ∧ (∀ l, l < j → s (8 * R + l) = (fun l => f l / nI g) l) ∧ (∀ l, j ≤ l → l < 8 → s (8 * R + l) = f l)) 8 0 a4 (by omega) ⟨fun _ _ => rfl, fun l hl => absurd hl (by omega), fun l _ hl => hf l hl⟩
    (fun n s h => pk_le 8 8 (fun _ => fm_c147 hR hi hk (H s h.1 h.2.1)) (fun z => absurd z (by omega)))
    (fun n j s hj h hw => pk_le 8 j (fun z => absurd z (by omega)) (fun _ => ⟨pk_in (8 * R + j) 2400 (by omega) (fm_ix R j), nI_ne0 (by omega) (by omega), pk_in (8 * R + j) 2400 (by omega) (fm_ix R j),
      nm_r (by rw [fm_ix, nI_clamp (by omega), h.2.2 j (Nat.le_refl j) hj]) (nm_r (nI_1 j) (hw (upd s (8 * R + j) (f j / nI g)) ⟨fm_kee rfl h.1, fm_fil rfl h.2.1 rfl, fun l h1 h2 => by rw [pk_un (by omega)]; exact h.2.2 l (by omega) h2⟩))⟩))
theorem fm_cmb {R i k : Nat} {f : Nat → Int32} (hR : R < 300) (hi : i < R) (hk : k < R) (hv : ∀ j, j < 8 → a6 i * a4 (8 * k + j) - a6 k * a4 (8 * i + j) = f j) (hb : ∀ l, l < 8 → -60 ≤ (f l).toInt ∧ (f l).toInt ≤ 60)
    (H : ∀ a, (∀ l, l < 8 * R → a l = a4 l) → (∀ l, l < 8 → a (8 * R + l) = fm_q (fm_gf f 8) (f l)) → post (m, r, nI (R + 1), mc, cur, a1, a2, a3, a, upd a5 R (a5 i ||| a5 k), a6, a7, a8)) :
    wpX_combine post (m, r, nI R, mc, cur, a1, a2, a3, a4, a5, a6, a7, a8) (nI i) (nI k) := by
  refine br_f (fun z => absurd ((nI_eq (b := 300) (by omega) (by omega)).mp z) (by omega)) ?_
  refine pk_loop (fun n j s => wX_combine_16 post (nI i) (nI k) m r (nI R) mc cur n (nI (fm_gf f j)) (nI j) a1 a2 a3 s a5 a6 a7 a8)
    (fun j s => (∀ l, l < 8 * R → s l = a4 l) ∧ (∀ l, l < j → s (8 * R + l) = f l)) 8 0 a4 (by omega) ⟨fun _ _ => rfl, fun l hl => absurd hl (by omega)⟩ ?_ ?_
  · intro n s h
    have hg := fm_gfb hb 8 (by omega)
    refine pk_le 8 8 (fun _ => pk_le (fm_gf f 8) 1 (fun z => ?_) (fun z => ?_)) (fun z => absurd z (by omega))
    · exact fm_c147 hR hi hk (H s h.1 (fun l hl => by rw [h.2 l hl, fm_q, if_pos z]))
    · exact fm_c102 hR hi hk z hg h.2 (fun a h1 h2 => H a (fun l hl => by rw [h1 l hl, h.1 l hl]) (fun l hl => by rw [h2 l hl, fm_q, if_neg (by omega)]))
  · intro n j s hj h hw
    have hg := fm_gfb hb j (by omega)
    refine pk_le 8 j (fun z => absurd z (by omega)) (fun _ => ⟨pk_in i 300 (by omega), pk_in (8 * k + j) 2400 (by omega) (fm_ix k j), pk_in k 300 (by omega), pk_in (8 * i + j) 2400 (by omega) (fm_ix i j), ?_⟩)
    refine nm_r (e' := f j) ?_ ⟨pk_in (8 * R + j) 2400 (by omega) (fm_ix R j), nm_r (e' := upd s (8 * R + j) (f j)) ?_ ?_⟩
    · rw [fm_ix, fm_ix, nI_clamp (by omega), nI_clamp (by omega), nI_clamp (by omega), nI_clamp (by omega), h.1 _ (by omega), h.1 _ (by omega)]
      exact hv j hj
    · rw [fm_ix, nI_clamp (by omega)]
    · exact fm_dv (by omega) (hb j hj).1 (hb j hj).2 (nm_r (nI_1 j) (hw (upd s (8 * R + j) (f j)) ⟨fm_kee rfl h.1, fm_fil rfl h.2 rfl⟩))
/-- areNeighbours over the start list S -/
theorem fm_nei {post : Int32 → Prop} {S : List Nat} {i k : Nat} (hS : fm_ok S) (hi : i < S.length) (hk : k < S.length) (h5 : ∀ l, l < S.length → a5 l = nI (S.getD l 0))
    (H1 : fm_op (S.getD i 0) (S.getD k 0) = 0 → post 1) (H0 : fm_op (S.getD i 0) (S.getD k 0) ≠ 0 → post 0) :
    wpX_areNeighbours post (m, r, rays, mc, cur, a1, a2, a3, a4, a5, a6, a7, a8) (nI i) (nI k) (nI S.length) := by
  have hl := hS.1
  have hU : ∀ l, l < S.length → S.getD l 0 ∈ fm_U := fun l h => hS.2.1 _ (fm_gm h)
  refine ⟨pk_in i 300 (by omega), pk_in k 300 (by omega), nm_r (e' := nI (S.getD i 0) ||| nI (S.getD k 0)) (by rw [nI_clamp (by omega), nI_clamp (by omega), h5 i hi, h5 k hk]) ?_⟩
  have ho := fm_oplt (S.getD i 0) (S.getD k 0)
  refine pk_eq (fm_op (S.getD i 0) (S.getD k 0)) 0 (fun z => ?_) H0 (fm_opI (fm_Ult _ (hU i hi)) (fm_Ult _ (hU k hk)))
  refine pk_loop (σ := Unit) (fun n l _ => wX_areNeighbours_35 post (nI i) (nI k) (nI S.length) (nI (S.getD i 0) ||| nI (S.getD k 0)) m r rays mc cur a1 a2 a3 a4 a5 a6 a7 a8 n (nI l)) (fun _ _ => True) S.length 0 () (by omega) trivial
    (fun n _ _ => pk_le S.length S.length (fun _ => H1 z) (fun z => absurd z (by omega))) ?_
  intro n l _ hl2 _ hw
  refine pk_le S.length l (fun z => absurd z (by omega)) (fun _ => pk_eq l i (fun _ => nm_r (nI_1 l) (hw () trivial)) (fun e1 => pk_eq l k (fun _ => nm_r (nI_1 l) (hw () trivial)) (fun e2 => ⟨pk_in l 300 (by omega), br_f ?_ (nm_r (nI_1 l) (hw () trivial))⟩)))
  rw [nI_clamp (by omega), h5 l hl2]
  exact fm_ngh _ (hU l hl2) _ (hU i hi) _ (hU k hk) (fun e => e1 (hS.2.2 l hl2 i hi e)) (fun e => e2 (hS.2.2 l hl2 k hk e))
end
end
section
/-! signs -/
theorem fm_sc0 {v : Int32} : fm_sc v = 0 ↔ v = 0 := by
  unfold fm_sc
  by_cases h : v = 0
  · simp [h]
  · by_cases h2 : v ≤ 0 <;> simp [h, h2]
theorem fm_sc1 {v : Int32} : fm_sc v = 1 ↔ ¬ v ≤ 0 := by
  unfold fm_sc
  by_cases h : v = 0
  · rw [if_pos h, h]; decide
  · by_cases h2 : v ≤ 0 <;> simp [h, h2]
theorem fm_sc2 {v : Int32} : fm_sc v = 2 ↔ ¬ 0 ≤ v := by
  unfold fm_sc
  by_cases h : v = 0
  · rw [if_pos h, h]; decide
  · have hn : ¬ v.toInt = 0 := fun z => h (Int32.toInt_inj.mp z)
    have h0 : (0 : Int32).toInt = 0 := by decide
    have h1 : v ≤ 0 ↔ v.toInt ≤ 0 := by rw [Int32.le_iff_toInt_le, h0]
    have h3 : 0 ≤ v ↔ 0 ≤ v.toInt := by rw [Int32.le_iff_toInt_le, h0]
    rw [if_neg h, h3]
    by_cases h2 : v ≤ 0
    · rw [if_pos h2]
      rw [h1] at h2
      constructor
      · intro _; omega
      · intro _; rfl
    · rw [if_neg h2]
      rw [h1] at h2
      constructor
      · intro z; exact absurd z (by decide)
      · intro z; omega
theorem fm_bt {a b : Nat} : Nat.beq a b = true ↔ a = b := ⟨Nat.eq_of_beq_eq_true, fun h => by rw [h]; exact Nat.beq_refl b⟩
theorem fm_bf {a b : Nat} : Nat.beq a b = false ↔ a ≠ b := by
  constructor
  · intro h e
    rw [fm_bt.mpr e] at h
    exact absurd h (by decide)
  · intro h
    cases e : Nat.beq a b
    · rfl
    · exact absurd (fm_bt.mp e) h
/-! the kept list -/
def fm_kf (L : List Nat) (d : Nat → Bool) : Nat → List Nat
  | 0 => []
  | k + 1 => fm_kf L d k ++ (bif d k then [L.getD k 0] else [])
theorem fm_kf1 {L : List Nat} {d : Nat → Bool} {k : Nat} (h : d k = true) : fm_kf L d (k + 1) = fm_kf L d k ++ [L.getD k 0] := by
  show fm_kf L d k ++ (bif d k then [L.getD k 0] else []) = _
  rw [h]; rfl
theorem fm_kf0 {L : List Nat} {d : Nat → Bool} {k : Nat} (h : d k = false) : fm_kf L d (k + 1) = fm_kf L d k := by
  show fm_kf L d k ++ (bif d k then [L.getD k 0] else []) = _
  rw [h]; exact List.append_nil _
theorem fm_kfl (L : List Nat) (d : Nat → Bool) (k : Nat) : (fm_kf L d k).length ≤ k := by
  induction k with
  | zero => exact Nat.le_refl 0
  | succ k ih =>
    cases h : d k
    · rw [fm_kf0 h]; omega
    · rw [fm_kf1 h, List.length_append]
      show _ + 1 ≤ _
      omega
def fm_dk (S C : List Nat) (g : Nat → Nat) (k : Nat) : Bool := Nat.ble S.length k || Nat.beq (g ((S ++ C).getD k 0)) 0
theorem fm_dk2 {S C : List Nat} {g : Nat → Nat} {k : Nat} (h : S.length ≤ k) : fm_dk S C g k = true := by
  unfold fm_dk
  rw [Nat.ble_eq_true_of_le h]
  rfl
theorem fm_dk1 {S C : List Nat} {g : Nat → Nat} {k : Nat} (h : k < S.length) : fm_dk S C g k = Nat.beq (g (S.getD k 0)) 0 := by
  unfold fm_dk
  have hb : Nat.ble S.length k = false := by
    cases h2 : Nat.ble S.length k
    · rfl
    · exact absurd (Nat.le_of_ble_eq_true h2) (by omega)
  rw [hb, fm_g1 h]
  rfl
theorem fm_kfS {S C : List Nat} {g : Nat → Nat} : ∀ k, k ≤ S.length → fm_kf (S ++ C) (fm_dk S C g) k = (S.take k).filter (fun x => Nat.beq (g x) 0) := by
  intro k
  induction k with
  | zero => intro _; rfl
  | succ k ih =>
    intro hk
    have hlt : k < S.length := by omega
    have hd := fm_dk1 (C := C) (g := g) hlt
    rw [fm_tk hlt, List.filter_append, ← ih (by omega)]
    cases h : Nat.beq (g (S.getD k 0)) 0
    · rw [h] at hd
      rw [fm_kf0 hd, List.filter_cons_of_neg (by rw [h]; decide), List.filter_nil, List.append_nil]
    · rw [h] at hd
      rw [fm_kf1 hd, fm_g1 hlt, List.filter_cons_of_pos (by rw [h]), List.filter_nil]
theorem fm_kfC {S C : List Nat} {g : Nat → Nat} : ∀ i, i ≤ C.length → fm_kf (S ++ C) (fm_dk S C g) (S.length + i) = S.filter (fun x => Nat.beq (g x) 0) ++ C.take i := by
  intro i
  induction i with
  | zero =>
    intro _
    rw [Nat.add_zero, fm_kfS S.length (Nat.le_refl _), List.take_length]
    simp
  | succ i ih =>
    intro hi
    have hlt : i < C.length := by omega
    rw [← Nat.add_assoc, fm_kf1 (fm_dk2 (Nat.le_add_right S.length i)), ih (by omega), fm_tk hlt, fm_g3, List.append_assoc]
theorem fm_kfL {S : List Nat} {g : Nat → Nat} : fm_kf (S ++ fm_cb g S S) (fm_dk S (fm_cb g S S) g) (S ++ fm_cb g S S).length = fm_L g S := by
  rw [List.length_append, fm_kfC _ (Nat.le_refl _), List.take_length]
  rfl
section
variable {post : St2 → Prop} {m r rays mc cur : Int32} {a1 a2 a3 a4 a5 a6 a7 a8 : Nat → Int32}
theorem fm_k29 {J : Int32 → Int32 → (Nat → Int32) → (Nat → Int32) → (Nat → Int32) → (Nat → Int32) → (Nat → Int32) → (Nat → Int32) → (Nat → Int32) → (Nat → Int32) → Prop} {x1 : Int32} {q k : Nat} (hq : q ≤ k) (hk : k < 300)
    (H : ∀ s, (∀ l, l < 8 * q → s l = a4 l) → (∀ l, l < 8 → s (8 * q + l) = a4 (8 * k + l)) → (∀ l, 8 * q + 8 ≤ l → s l = a4 l) → J (nI (q + 1)) (nI (k + 1)) a1 a2 a3 s (upd a5 q (a5 k)) a6 a7 a8) :
    ∃ n, wX_keepBalanced_29 post J x1 (nI q) (nI k) m r rays mc cur n 0 a1 a2 a3 a4 a5 a6 a7 a8 :=
  pk_loop (fun n j s => wX_keepBalanced_29 post J x1 (nI q) (nI k) m r rays mc cur n (nI j) a1 a2 a3 s a5 a6 a7 a8)
    (fun j s => (∀ l, l < 8 * q → s l = a4 l) ∧ (∀ l, l < j → s (8 * q + l) = (fun l => a4 (8 * k + l)) l) ∧ (∀ l, 8 * q + j ≤ l → s l = a4 l)) 8 0 a4 (by omega) ⟨fun _ _ => rfl, fun l hl => absurd hl (by omega), fun _ _ => rfl⟩
    (fun n s h => pk_le 8 8 (fun _ => ⟨pk_in k 300 hk, pk_in q 300 (by omega), nm_r (by rw [nI_clamp (by omega), nI_clamp (by omega)]) (nm_r (nI_1 q) (nm_r (nI_1 k) (H s h.1 h.2.1 h.2.2)))⟩) (fun z => absurd z (by omega)))
    (fun n j s hj h hw => pk_le 8 j (fun z => absurd z (by omega)) (fun _ => ⟨pk_in (8 * k + j) 2400 (by omega) (fm_ix k j), pk_in (8 * q + j) 2400 (by omega) (fm_ix q j),
      nm_r (by rw [fm_ix, fm_ix, nI_clamp (by omega), nI_clamp (by omega), h.2.2 (8 * k + j) (by omega)]) (nm_r (nI_1 j) (hw (upd s (8 * q + j) (a4 (8 * k + j))) ⟨fm_kee rfl h.1, fm_fil rfl h.2.1 rfl, fun l hl => by rw [pk_un (by omega)]; exact h.2.2 l (by omega)⟩))⟩))
theorem fm_kb {c : Nat → Int32} {L : List Nat} {N : Nat} {d : Nat → Bool} (hN : N ≤ L.length) (hL : L.length < 300) (hV : fm_V c L a4 a5) (hd1 : ∀ k, k < L.length → (N ≤ k ∨ a6 k = 0) → d k = true) (hd0 : ∀ k, k < L.length → ¬ N ≤ k → ¬ a6 k = 0 → d k = false)
    (H : ∀ a a', fm_V c (fm_kf L d L.length) a a' → post (m, r, nI (fm_kf L d L.length).length, mc, cur, a1, a2, a3, a, a', a6, a7, a8)) :
    wpX_keepBalanced post (m, r, nI L.length, mc, cur, a1, a2, a3, a4, a5, a6, a7, a8) (nI N) := by
  refine pk_loop (fun n k s => wX_keepBalanced_4 post (nI N) m r (nI L.length) mc cur n (nI (fm_kf L d k).length) (nI k) a1 a2 a3 s.1 s.2 a6 a7 a8)
    (fun k s => fm_V c (fm_kf L d k) s.1 s.2 ∧ ∀ i, k ≤ i → i < L.length → s.2 i = nI (L.getD i 0) ∧ fm_R c (L.getD i 0) (fun j => s.1 (8 * i + j))) L.length 0 (a4, a5) (by omega) ⟨fm_V0, fun i _ hi => hV i hi⟩
    (fun n s h => pk_le L.length L.length (fun _ => H s.1 s.2 h.1) (fun z => absurd z (by omega))) ?_
  intro n k s hk h hw
  obtain ⟨s1, s2⟩ := s
  have hq := fm_kfl L d k
  have C : d k = true → ∃ n', wX_keepBalanced_29 post (wX_keepBalanced_4 post (nI N) m r (nI L.length) mc cur n) (nI N) (nI (fm_kf L d k).length) (nI k) m r (nI L.length) mc cur n' 0 a1 a2 a3 s1 s2 a6 a7 a8 := by
    intro hd
    refine fm_k29 hq (by omega) (fun a e1 e2 e3 => ?_)
    have hs := h.2 k (Nat.le_refl k) hk
    dsimp only at hs
    have t := hw (a, upd s2 (fm_kf L d k).length (s2 k)) (by
      rw [fm_kf1 hd]
      refine ⟨?_, fun i hi hi2 => ?_⟩
      · dsimp only
        rw [hs.1]
        exact fm_Va rfl h.1 e1 (fm_Rc hs.2 e2)
      · dsimp only
        have hi3 := h.2 i (by omega) hi2
        rw [pk_un (by omega)]
        exact ⟨hi3.1, fm_Rc hi3.2 (fun j hj => e3 _ (by omega))⟩)
    dsimp only at t
    rw [fm_kf1 hd, List.length_append] at t
    exact t
  refine pk_le L.length k (fun z => absurd z (by omega)) (fun _ => pk_le N k (fun z => C (hd1 k hk (Or.inl z))) (fun z => ⟨pk_in k 300 (by omega), br_c (fun g => C (hd1 k hk (Or.inr ?_))) (fun g => ?_)⟩))
  · rw [nI_clamp (by omega)] at g
    exact g
  · rw [nI_clamp (by omega)] at g
    have hd := hd0 k hk (by omega) g
    have t := hw (s1, s2) (by
      rw [fm_kf0 hd]
      exact ⟨h.1, fun i hi hi2 => h.2 i (by omega) hi2⟩)
    dsimp only at t
    rw [fm_kf0 hd] at t
    exact nm_r (nI_1 k) t
end
end
section
theorem fm_rw1 {g : Nat → Nat} {p q : Nat} {A : List Nat} (h : fm_cd g p q = true) : fm_rw g p (A ++ [q]) = fm_rw g p A ++ [p ||| q] := by
  unfold fm_rw
  rw [List.filter_append, List.filter_cons_of_pos h, List.filter_nil, List.map_append]
  rfl
theorem fm_rw0 {g : Nat → Nat} {p q : Nat} {A : List Nat} (h : fm_cd g p q = false) : fm_rw g p (A ++ [q]) = fm_rw g p A := by
  unfold fm_rw
  rw [List.filter_append, List.filter_cons_of_neg (by rw [h]; decide), List.filter_nil, List.append_nil]
theorem fm_rwl (g : Nat → Nat) (p : Nat) (A : List Nat) : (fm_rw g p A).length ≤ A.length := by
  unfold fm_rw
  rw [List.length_map]
  exact List.length_filter_le _ _
theorem fm_app {S T X : List Nat} {y : Nat} : S ++ (T ++ (X ++ [y])) = (S ++ (T ++ X)) ++ [y] := by
  rw [List.append_assoc, List.append_assoc]
theorem fm_cb1 {g : Nat → Nat} {S P : List Nat} {p : Nat} : fm_cb g S (P ++ [p]) = fm_cb g S P ++ fm_rw g p S := by
  unfold fm_cb
  rw [List.flatMap_append]
  simp
theorem fm_cbl (g : Nat → Nat) (S : List Nat) : ∀ P : List Nat, (fm_cb g S P).length ≤ P.length * S.length := by
  intro P
  induction P with
  | nil => exact Nat.zero_le _
  | cons p P ih =>
    have e : fm_cb g S (p :: P) = fm_rw g p S ++ fm_cb g S P := by
      unfold fm_cb
      rw [List.flatMap_cons]
    rw [e, List.length_append, List.length_cons, Nat.add_mul, Nat.one_mul]
    have := fm_rwl g p S
    omega
section
variable {post : St2 → Prop} {m r rays mc cur : Int32} {a1 a2 a3 a4 a5 a6 a7 a8 : Nat → Int32}
variable {J14 J34 : Int32 → Int32 → Int32 → Int32 → Int32 → Int32 → (Nat → Int32) → (Nat → Int32) → (Nat → Int32) → (Nat → Int32) → (Nat → Int32) → (Nat → Int32) → (Nat → Int32) → (Nat → Int32) → Prop}
theorem fm_r42 {x1 : Int32} {c : Nat → Int32} {g : Nat → Nat} {S T : List Nat} {i : Nat} (hc : fm_C c) (hg : ∀ x, x ∈ fm_U → fm_sc (fm_sd c x) = g x) (hS : fm_ok S) (hi : i < S.length) (hT : T.length ≤ 200) (h6 : ∀ k, k < S.length → a6 k = fm_sd c (S.getD k 0))
    (hV : fm_V c (S ++ T) a4 a5)
    (H : ∀ a a', fm_V c (S ++ (T ++ fm_rw g (S.getD i 0) S)) a a' → J34 (nI (i + 1)) m r (nI (S ++ (T ++ fm_rw g (S.getD i 0) S)).length) mc cur a1 a2 a3 a a' a6 a7 a8) :
    ∃ n, wX_refresh_42 post J14 J34 x1 (nI S.length) (nI i) n 0 m r (nI (S ++ T).length) mc cur a1 a2 a3 a4 a5 a6 a7 a8 := by
  have hSl := hS.1
  have hU : ∀ l, l < S.length → S.getD l 0 ∈ fm_U := fun l h => hS.2.1 _ (fm_gm h)
  have E0 : S ++ (T ++ fm_rw g (S.getD i 0) (S.take 0)) = S ++ T := by simp [fm_rw]
  have Q : ∃ n, (fun n j (s : (Nat → Int32) × (Nat → Int32)) => wX_refresh_42 post J14 J34 x1 (nI S.length) (nI i) n (nI j) m r (nI (S ++ (T ++ fm_rw g (S.getD i 0) (S.take j))).length) mc cur a1 a2 a3 s.1 s.2 a6 a7 a8) n 0 (a4, a5) := by
    refine pk_loop (fun n j (s : (Nat → Int32) × (Nat → Int32)) => wX_refresh_42 post J14 J34 x1 (nI S.length) (nI i) n (nI j) m r (nI (S ++ (T ++ fm_rw g (S.getD i 0) (S.take j))).length) mc cur a1 a2 a3 s.1 s.2 a6 a7 a8)
      (fun j s => fm_V c (S ++ (T ++ fm_rw g (S.getD i 0) (S.take j))) s.1 s.2) S.length 0 (a4, a5) (by omega) (by rw [E0]; exact hV) ?_ ?_
    · intro n s h
      rw [List.take_length] at h ⊢
      exact pk_le S.length S.length (fun _ => nm_r (nI_1 i) (H s.1 s.2 h)) (fun z => absurd z (by omega))
    · intro n j s hj h hw
      obtain ⟨s1, s2⟩ := s
      dsimp only at h
      have hrl := fm_rwl g (S.getD i 0) (S.take j)
      have htl : (S.take j).length ≤ j := List.length_take_le j S
      have hlen : (S ++ (T ++ fm_rw g (S.getD i 0) (S.take j))).length = S.length + (T.length + (fm_rw g (S.getD i 0) (S.take j)).length) := by rw [List.length_append, List.length_append]
      have hV5 : ∀ l, l < S.length → s2 l = nI (S.getD l 0) ∧ fm_R c (S.getD l 0) (fun j => s1 (8 * l + j)) := by
        intro l hl
        have z := h l (by rw [hlen]; omega)
        rw [fm_g1 hl] at z
        exact z
      have skip : fm_cd g (S.getD i 0) (S.getD j 0) = false → wX_refresh_42 post J14 J34 x1 (nI S.length) (nI i) n (nI (j + 1)) m r (nI (S ++ (T ++ fm_rw g (S.getD i 0) (S.take j))).length) mc cur a1 a2 a3 s1 s2 a6 a7 a8 := by
        intro hz
        have t := hw (s1, s2) (by rw [fm_tk hj, fm_rw0 hz]; exact h)
        dsimp only at t
        rw [fm_tk hj, fm_rw0 hz] at t
        exact t
      have gi := hg _ (hU i hi)
      have gj := hg _ (hU j hj)
      refine pk_le S.length j (fun z => absurd z (by omega)) (fun _ => ⟨pk_in i 300 (by omega), br_c (fun z => nm_r (nI_1 j) (skip ?_)) (fun z => ⟨pk_in j 300 (by omega), br_c (fun z2 => nm_r (nI_1 j) (skip ?_)) (fun z2 => ?_)⟩)⟩)
      · rw [nI_clamp (by omega), h6 i hi] at z
        have : ¬ g (S.getD i 0) = 1 := by
          rw [← gi, fm_sc1]
          exact fun y => y z
        unfold fm_cd
        rw [fm_bf.mpr this]
        rfl
      · rw [nI_clamp (by omega), h6 j hj] at z2
        have : ¬ g (S.getD j 0) = 2 := by
          rw [← gj, fm_sc2]
          exact fun y => y z2
        unfold fm_cd
        rw [fm_bf.mpr this, Bool.false_and, Bool.and_false]
      · rw [nI_clamp (by omega), h6 i hi] at z
        rw [nI_clamp (by omega), h6 j hj] at z2
        have e1 : g (S.getD i 0) = 1 := by rw [← gi, fm_sc1]; exact z
        have e2 : g (S.getD j 0) = 2 := by rw [← gj, fm_sc2]; exact z2
        refine fm_nei hS hi hj (fun l hl => (hV5 l hl).1) (fun ho => br_f (by decide) ?_) (fun ho => br_t rfl (nm_r (nI_1 j) (skip ?_)))
        · have hcd : fm_cd g (S.getD i 0) (S.getD j 0) = true := by
            unfold fm_cd
            rw [e1, e2, ho]
            rfl
          obtain ⟨b1, b2⟩ := fm_pr1 hc (hU i hi) (hU j hj) ho (Int32.not_le.mp z) (Int32.not_le.mp z2)
          refine fm_cmb (f := fun l => fm_sd c (S.getD i 0) * fm_u (S.getD j 0) l - fm_sd c (S.getD j 0) * fm_u (S.getD i 0) l) (by omega) (by omega) (by omega) (fun l hl => ?_) b1 (fun a ha1 ha2 => nm_r (nI_1 j) ?_)
          · have r1 := (hV5 i hi).2.1 (hU i hi) l hl
            have r2 := (hV5 j hj).2.1 (hU j hj) l hl
            dsimp only at r1 r2 ⊢
            rw [h6 i hi, h6 j hj, r1, r2]
          · dsimp only
            rw [(hV5 i hi).1, (hV5 j hj).1, fm_or]
            have t := hw (a, upd s2 (S ++ (T ++ fm_rw g (S.getD i 0) (S.take j))).length (nI (S.getD i 0 ||| S.getD j 0))) (by
              rw [fm_tk hj, fm_rw1 hcd, fm_app]
              exact fm_Va rfl h ha1 (b2 _ ha2))
            dsimp only at t
            rw [fm_tk hj, fm_rw1 hcd, fm_app, List.length_append (as := S ++ (T ++ fm_rw g (S.getD i 0) (S.take j)))] at t
            exact t
        · unfold fm_cd
          rw [fm_bf.mpr ho, Bool.and_false, Bool.and_false]
  dsimp only at Q
  rw [E0] at Q
  exact Q
theorem fm_r34 {c : Nat → Int32} {g : Nat → Nat} {S : List Nat} (hc : fm_C c) (hg : ∀ x, x ∈ fm_U → fm_sc (fm_sd c x) = g x) (hS : fm_ok S) (h6 : ∀ k, k < S.length → a6 k = fm_sd c (S.getD k 0)) (hV : fm_V c S a4 a5)
    (H : ∀ a a', fm_V c (fm_L g S) a a' → J14 1 m r (nI (fm_L g S).length) mc cur a1 a2 a3 a a' a6 a7 a8) :
    ∃ n, wX_refresh_34 post J14 0 (nI S.length) n 0 m r (nI S.length) mc cur a1 a2 a3 a4 a5 a6 a7 a8 := by
  have hSl := hS.1
  have hU : ∀ l, l < S.length → S.getD l 0 ∈ fm_U := fun l h => hS.2.1 _ (fm_gm h)
  have hB : ∀ i, i ≤ S.length → (fm_cb g S (S.take i)).length ≤ 64 := by
    intro i hi
    have h1 := fm_cbl g S (S.take i)
    have h2 : (S.take i).length ≤ i := List.length_take_le i S
    have h3 : (S.take i).length * S.length ≤ 8 * 8 := Nat.mul_le_mul (by omega) hSl
    omega
  have E0 : S ++ fm_cb g S (S.take 0) = S := by simp [fm_cb]
  have Q : ∃ n, (fun n i (s : (Nat → Int32) × (Nat → Int32)) => wX_refresh_34 post J14 0 (nI S.length) n (nI i) m r (nI (S ++ fm_cb g S (S.take i)).length) mc cur a1 a2 a3 s.1 s.2 a6 a7 a8) n 0 (a4, a5) := by
    refine pk_loop (fun n i (s : (Nat → Int32) × (Nat → Int32)) => wX_refresh_34 post J14 0 (nI S.length) n (nI i) m r (nI (S ++ fm_cb g S (S.take i)).length) mc cur a1 a2 a3 s.1 s.2 a6 a7 a8)
      (fun i s => fm_V c (S ++ fm_cb g S (S.take i)) s.1 s.2) S.length 0 (a4, a5) (by omega) (by rw [E0]; exact hV) ?_ ?_
    · intro n s h
      have hb := hB S.length (Nat.le_refl _)
      rw [List.take_length] at h hb ⊢
      have hlen : (S ++ fm_cb g S S).length = S.length + (fm_cb g S S).length := List.length_append
      refine pk_le S.length S.length (fun _ => ?_) (fun z => absurd z (by omega))
      refine fm_kb (d := fm_dk S (fm_cb g S S) g) (by omega) (by omega) h (fun k hk z => ?_) (fun k hk z z2 => ?_) (fun a a' hV' => nm_r rfl ?_)
      · by_cases hks : S.length ≤ k
        · exact fm_dk2 hks
        · have hks : k < S.length := by omega
          rcases z with z | z
          · omega
          · rw [fm_dk1 hks, fm_bt, ← hg _ (hU k hks), fm_sc0, ← h6 k hks]
            exact z
      · have hks : k < S.length := by omega
        rw [fm_dk1 hks, fm_bf, ← hg _ (hU k hks)]
        intro y
        rw [fm_sc0, ← h6 k hks] at y
        exact z2 y
      · rw [fm_kfL] at hV' ⊢
        exact H a a' hV'
    · intro n i s hi h hw
      have hb := hB i (by omega)
      refine pk_le S.length i (fun z => absurd z (by omega)) (fun _ => ?_)
      refine fm_r42 hc hg hS hi (by omega) h6 h (fun a a' hV' => ?_)
      have t := hw (a, a') (by rw [fm_tk hi, fm_cb1]; exact hV')
      dsimp only at t
      rw [fm_tk hi, fm_cb1] at t
      exact t
  dsimp only at Q
  rw [E0] at Q
  exact Q
end
end
section
/-- marks: their places and sizes -/
def fm_M (L : List Nat) (a5 : Nat → Int32) : Prop := L.length < 300 ∧ (∀ x, x ∈ L → x < 65536) ∧ ∀ k, k < L.length → a5 k = nI (L.getD k 0)
theorem fm_Mlt {L : List Nat} {a5 : Nat → Int32} (h : fm_M L a5) {k : Nat} (hk : k < L.length) : L.getD k 0 < 65536 := h.2.1 _ (fm_gm hk)
section
variable {post : St2 → Prop} {m r rays mc cur : Int32} {a1 a2 a3 a4 a5 a6 a7 a8 : Nat → Int32}
variable {J : Int32 → (Nat → Int32) → (Nat → Int32) → (Nat → Int32) → (Nat → Int32) → (Nat → Int32) → (Nat → Int32) → (Nat → Int32) → (Nat → Int32) → Prop}
theorem fm_f43 {L : List Nat} {k y : Nat} (hM : fm_M L a5) (hk : k < 300) (hy : y < 65536) (h0 : a7 k = 0)
    (H : ∀ s, (∀ l, l ≠ k → s l = a7 l) → s k = (if y ∈ L then 1 else 0) → J (nI (k + 1)) a1 a2 a3 a4 a5 a6 s a8) :
    ∃ n, wX_findTurning_43 post J (nI k) (nI y) m r (nI L.length) mc cur n 0 a1 a2 a3 a4 a5 a6 a7 a8 := by
  have hL := hM.1
  refine pk_loop (fun n i s => wX_findTurning_43 post J (nI k) (nI y) m r (nI L.length) mc cur n (nI i) a1 a2 a3 a4 a5 a6 s a8) (fun i s => (∀ l, l ≠ k → s l = a7 l) ∧ s k = (if y ∈ L.take i then 1 else 0)) L.length 0 a7 (by omega) ⟨fun _ _ => rfl, ?_⟩ ?_ ?_
  · rw [h0, if_neg (by simp)]
  · intro n s h
    rw [List.take_length] at h
    exact pk_le L.length L.length (fun _ => nm_r (nI_1 k) (H s h.1 h.2)) (fun z => absurd z (by omega))
  · intro n i s hi h hw
    have hx := fm_Mlt hM hi
    refine pk_le L.length i (fun z => absurd z (by omega)) (fun _ => ⟨pk_in i 300 (by omega), pk_eq (L.getD i 0) y (fun e => ⟨pk_in k 300 hk, nm_r (e' := upd s k 1) (by rw [nI_clamp (by omega)]) (nm_r (nI_1 i) (hw _ ⟨fun l hl => by rw [pk_un hl]; exact h.1 l hl, ?_⟩))⟩) (fun e => nm_r (nI_1 i) (hw s ⟨h.1, ?_⟩)) (by rw [nI_clamp (by omega), hM.2.2 i hi])⟩)
    · rw [pk_us, fm_tk hi, if_pos (by rw [List.mem_append, List.mem_singleton]; exact Or.inr e.symm)]
    · rw [h.2, fm_tk hi]
      have E : y ∈ L.take i ++ [L.getD i 0] ↔ y ∈ L.take i := by
        rw [List.mem_append, List.mem_singleton]
        exact ⟨fun z => z.elim id (fun z => absurd z.symm e), Or.inl⟩
      by_cases hz : y ∈ L.take i
      · rw [if_pos hz, if_pos (E.mpr hz)]
      · rw [if_neg hz, if_neg (fun z => hz (E.mp z))]
theorem fm_ft {L : List Nat} (hM : fm_M L a5) (H : ∀ a, (∀ k, k < L.length → a k = if fm_tn (L.getD k 0) ∈ L then 1 else 0) → post (m, r, nI L.length, mc, cur, a1, a2, a3, a4, a5, a6, a, a8)) :
    wpX_findTurning post (m, r, nI L.length, mc, cur, a1, a2, a3, a4, a5, a6, a7, a8) := by
  have hL := hM.1
  refine pk_loop (fun n k s => wX_findTurning_2 post m r (nI L.length) mc cur n (nI k) a1 a2 a3 a4 a5 a6 s a8) (fun k s => ∀ l, l < k → s l = if fm_tn (L.getD l 0) ∈ L then 1 else 0) L.length 0 a7 (by omega) (fun l hl => absurd hl (by omega))
    (fun n s h => pk_le L.length L.length (fun _ => H s h) (fun z => absurd z (by omega))) ?_
  intro n k s hk h hw
  have hx := fm_Mlt hM hk
  refine pk_le L.length k (fun z => absurd z (by omega)) (fun _ => ⟨pk_in k 300 (by omega), pk_in k 300 (by omega), nm_r (e' := nI (fm_tn (L.getD k 0))) ?_ ⟨pk_in k 300 (by omega), nm_r (e' := upd s k 0) (by rw [nI_clamp (by omega)]) ?_⟩⟩)
  · rw [nI_clamp (by omega), hM.2.2 k hk]
    exact fm_tnI hx
  · refine fm_f43 hM (by omega) (fm_tnlt hx) pk_us (fun s' e1 e2 => hw s' (fun l hl => ?_))
    by_cases e : l = k
    · rw [e]
      exact e2
    · rw [e1 l e, pk_un e]
      exact h l (by omega)
/-- supportOf -/
theorem fm_sup {post : Int32 → Prop} {L : List Nat} {k : Nat} {x : Int32} (hM : fm_M L a5) (hk : k < L.length) (hx : x = nI k) (H : post (nI (fm_sp (L.getD k 0)))) :
    wpX_supportOf post (m, r, rays, mc, cur, a1, a2, a3, a4, a5, a6, a7, a8) x := by
  have hL := hM.1
  subst hx
  refine ⟨pk_in k 300 (by omega), pk_in k 300 (by omega), ?_⟩
  rw [nI_clamp (by omega), hM.2.2 k hk, fm_spI (fm_Mlt hM hk)]
  exact H
end
end
section
theorem fm_ins {O : List Nat} {t k i : Nat} (ht : t ≤ O.length) : (O.take t ++ k :: O.drop t).getD i 0 = if i < t then O.getD i 0 else if i = t then k else O.getD (i - 1) 0 := by
  have hl : (O.take t).length = t := by rw [List.length_take]; omega
  by_cases h : i < t
  · rw [if_pos h, fm_g1 (by omega), List.getD_eq_getElem?_getD, List.getD_eq_getElem?_getD, List.getElem?_take_of_lt h]
  · rw [if_neg h]
    obtain ⟨d, rfl⟩ : ∃ d, i = t + d := ⟨i - t, by omega⟩
    have e : (O.take t ++ k :: O.drop t).getD (t + d) 0 = (k :: O.drop t).getD d 0 := by
      have := fm_g3 (A := O.take t) (B := k :: O.drop t) (k := d)
      rw [hl] at this
      exact this
    rw [e]
    cases d with
    | zero => rw [if_pos (by omega)]; rfl
    | succ d =>
      rw [if_neg (by omega), List.getD_cons_succ, List.getD_eq_getElem?_getD, List.getD_eq_getElem?_getD, List.getElem?_drop, show t + (d + 1) - 1 = t + d by omega]
theorem fm_insl {O : List Nat} {t k : Nat} (ht : t ≤ O.length) : (O.take t ++ k :: O.drop t).length = O.length + 1 := by
  rw [List.length_append, List.length_cons, List.length_take, List.length_drop]
  omega
/-- O: the kept places below k in the order of their supports -/
def fm_Or (L : List Nat) (k : Nat) (O : List Nat) : Prop := (O.map (fun i => L.getD i 0)).Perm ((L.take k).filter (fm_kp L)) ∧ (∀ x, x ∈ O → x < k) ∧ ∀ i j, i < j → j < O.length → fm_sp (L.getD (O.getD i 0) 0) ≤ fm_sp (L.getD (O.getD j 0) 0)
theorem fm_Orl {L : List Nat} {k : Nat} {O : List Nat} (h : fm_Or L k O) : O.length ≤ k := by
  have e := h.1.length_eq
  rw [List.length_map] at e
  have h1 : ((L.take k).filter (fm_kp L)).length ≤ (L.take k).length := List.length_filter_le _ _
  have h2 : (L.take k).length ≤ k := List.length_take_le k L
  omega
theorem fm_Or0 {L : List Nat} : fm_Or L 0 [] := ⟨by simp, by simp, fun i j _ h => absurd h (Nat.not_lt_zero j)⟩
theorem fm_OrS {L : List Nat} {k : Nat} {O : List Nat} (hk : k < L.length) (hn : fm_kp L (L.getD k 0) = false) (h : fm_Or L k O) : fm_Or L (k + 1) O := by
  refine ⟨?_, fun x hx => Nat.lt_succ_of_lt (h.2.1 x hx), h.2.2⟩
  rw [fm_tk hk, List.filter_append, List.filter_cons_of_neg (by rw [hn]; decide), List.filter_nil, List.append_nil]
  exact h.1
theorem fm_OrI {L : List Nat} {k t : Nat} {O : List Nat} (hk : k < L.length) (hn : fm_kp L (L.getD k 0) = true) (h : fm_Or L k O) (ht : t ≤ O.length)
    (h1 : ∀ i, t ≤ i → i < O.length → fm_sp (L.getD k 0) < fm_sp (L.getD (O.getD i 0) 0)) (h2 : t = 0 ∨ fm_sp (L.getD (O.getD (t - 1) 0) 0) ≤ fm_sp (L.getD k 0)) : fm_Or L (k + 1) (O.take t ++ k :: O.drop t) := by
  refine ⟨?_, fun x hx => ?_, fun i j hij hj => ?_⟩
  · rw [fm_tk hk, List.filter_append, List.filter_cons_of_pos hn, List.filter_nil, List.map_append, List.map_cons]
    refine List.perm_middle.trans ?_
    rw [← List.map_append, List.take_append_drop]
    exact ((h.1.cons _).trans (List.perm_append_singleton _ _).symm)
  · rw [List.mem_append, List.mem_cons] at hx
    rcases hx with hx | hx | hx
    · exact Nat.lt_succ_of_lt (h.2.1 x (List.mem_of_mem_take hx))
    · omega
    · exact Nat.lt_succ_of_lt (h.2.1 x (List.mem_of_mem_drop hx))
  · rw [fm_insl ht] at hj
    have hlow : ∀ a, a < t → fm_sp (L.getD (O.getD a 0) 0) ≤ fm_sp (L.getD k 0) := by
      intro a ha
      rcases h2 with e | e
      · omega
      · by_cases e2 : a = t - 1
        · rw [e2]; exact e
        · exact Nat.le_trans (h.2.2 a (t - 1) (by omega) (by omega)) e
    rw [fm_ins ht, fm_ins ht]
    by_cases c1 : i < t
    · rw [if_pos c1]
      by_cases c2 : j < t
      · rw [if_pos c2]
        exact h.2.2 i j hij (by omega)
      · rw [if_neg c2]
        by_cases c3 : j = t
        · rw [if_pos c3]
          exact hlow i c1
        · rw [if_neg c3]
          exact Nat.le_trans (hlow i c1) (Nat.le_of_lt (h1 (j - 1) (by omega) (by omega)))
    · rw [if_neg c1, if_neg (show ¬ j < t by omega), if_neg (show ¬ j = t by omega)]
      by_cases c3 : i = t
      · rw [if_pos c3]
        exact Nat.le_of_lt (h1 (j - 1) (by omega) (by omega))
      · rw [if_neg c3]
        exact h.2.2 (i - 1) (j - 1) (by omega) (by omega)
theorem fm_kp1 {L : List Nat} {x : Nat} (h : ¬ fm_tn x ∈ L) : fm_kp L x = true := by
  unfold fm_kp
  have : L.any (fun y => Nat.beq y (fm_tn x)) = false := by
    cases e : L.any (fun y => Nat.beq y (fm_tn x))
    · rfl
    · exact absurd (fm_any.mp e) h
  rw [this]
  rfl
theorem fm_kp2 {L : List Nat} {x : Nat} (h : x &&& fm_lo (fm_sp x) ≠ 0) : fm_kp L x = true := by
  unfold fm_kp
  rw [fm_bf.mpr h, Bool.not_false, Bool.or_true]
theorem fm_kp0 {L : List Nat} {x : Nat} (h : fm_tn x ∈ L) (h2 : x &&& fm_lo (fm_sp x) = 0) : fm_kp L x = false := by
  unfold fm_kp
  rw [fm_any.mpr h, fm_bt.mpr h2]
  rfl
section
variable {post : St2 → Prop} {m r rays mc cur : Int32} {a1 a2 a3 a4 a5 a6 a7 a8 : Nat → Int32}
theorem fm_a52 {J : Int32 → Int32 → (Nat → Int32) → (Nat → Int32) → (Nat → Int32) → (Nat → Int32) → (Nat → Int32) → (Nat → Int32) → (Nat → Int32) → (Nat → Int32) → Prop} {L O : List Nat} {k sx : Nat} (hM : fm_M L a5) (hO : O.length < 300) (hm : ∀ x, x ∈ O → x < L.length) (hs : sx < 256) (h8 : ∀ i, i < O.length → a8 i = nI (O.getD i 0))
    (H : ∀ t s, t ≤ O.length → (∀ i, t ≤ i → i < O.length → sx < fm_sp (L.getD (O.getD i 0) 0)) → (t = 0 ∨ fm_sp (L.getD (O.getD (t - 1) 0) 0) ≤ sx) → (∀ i, i < O.length + 1 → s i = nI ((O.take t ++ k :: O.drop t).getD i 0)) → J (nI (k + 1)) (nI (O.length + 1)) a1 a2 a3 a4 a5 a6 a7 s) :
    ∃ n, wX_arrange_52 post J (nI k) (nI sx) m r rays (nI O.length) cur n (nI O.length) a1 a2 a3 a4 a5 a6 a7 a8 := by
  have E : ∀ t s, t ≤ O.length → ((∀ i, i < t → s i = nI (O.getD i 0)) ∧ (∀ i, t ≤ i → i < O.length → s (i + 1) = nI (O.getD i 0)) ∧ ∀ i, t ≤ i → i < O.length → sx < fm_sp (L.getD (O.getD i 0) 0)) → (t = 0 ∨ fm_sp (L.getD (O.getD (t - 1) 0) 0) ≤ sx) → wX_arrange_96 post J (nI k) (nI t) m r rays (nI O.length) cur a1 a2 a3 a4 a5 a6 a7 s := by
    intro t s ht h hx
    refine ⟨pk_in t 300 (by omega), nm_r (e' := upd s t (nI k)) (by rw [nI_clamp (by omega)]) (nm_r (nI_1 _) (nm_r (nI_1 k) (H t _ ht h.2.2 hx (fun i hi => ?_))))⟩
    rw [fm_ins ht]
    by_cases c1 : i < t
    · rw [if_pos c1, pk_un (by omega)]
      exact h.1 i c1
    · rw [if_neg c1]
      by_cases c2 : i = t
      · rw [if_pos c2, c2, pk_us]
      · rw [if_neg c2, pk_un c2]
        have := h.2.1 (i - 1) (by omega) (by omega)
        rw [show i - 1 + 1 = i by omega] at this
        exact this
  refine ⟨O.length + 1, pk_loopD (fun n t s => wX_arrange_52 post J (nI k) (nI sx) m r rays (nI O.length) cur n (nI t) a1 a2 a3 a4 a5 a6 a7 s)
    (fun t s => t ≤ O.length ∧ (∀ i, i < t → s i = nI (O.getD i 0)) ∧ (∀ i, t ≤ i → i < O.length → s (i + 1) = nI (O.getD i 0)) ∧ ∀ i, t ≤ i → i < O.length → sx < fm_sp (L.getD (O.getD i 0) 0)) ?_ ?_ O.length a8 ⟨Nat.le_refl _, h8, fun i h1 h2 => absurd h1 (by omega), fun i h1 h2 => absurd h1 (by omega)⟩⟩
  · intro n s h
    exact br_t (by decide) (E 0 s h.1 h.2 (Or.inl rfl))
  · intro n t s h hw
    have hlt : O.getD t 0 < L.length := hm _ (fm_gm (by omega))
    have hp := fm_splt (L.getD (O.getD t 0) 0)
    refine br_f (nI_nle (by omega) (by omega)) ⟨pk_in t 300 (by omega) (nI_pred t), ?_⟩
    refine fm_sup hM hlt (by rw [nI_pred, nI_clamp (by omega)]; exact h.2.1 t (by omega)) ?_
    refine pk_le (fm_sp (L.getD (O.getD t 0) 0)) sx (fun z => E (t + 1) s h.1 h.2 (Or.inr z)) (fun z => ⟨pk_in t 300 (by omega) (nI_pred t), pk_in (t + 1) 300 (by omega), nm_r (e' := upd s (t + 1) (nI (O.getD t 0))) ?_ (nm_r (pk_m1 t) (hw _ ⟨by omega, fun i hi => ?_, fun i h1 h2 => ?_, fun i h1 h2 => ?_⟩))⟩)
    · rw [nI_pred, nI_clamp (by omega), nI_clamp (by omega), h.2.1 t (by omega)]
    · rw [pk_un (by omega)]
      exact h.2.1 i (by omega)
    · by_cases e : i = t
      · rw [e, pk_us]
      · rw [pk_un (by omega)]
        exact h.2.2.1 i (by omega) h2
    · by_cases e : i = t
      · rw [e]; exact z
      · exact h.2.2.2 i (by omega) h2
theorem fm_arr {L : List Nat} (hM : fm_M L a5) (h7 : ∀ k, k < L.length → a7 k = if fm_tn (L.getD k 0) ∈ L then 1 else 0)
    (H : ∀ O a, fm_Or L L.length O → (∀ i, i < O.length → a i = nI (O.getD i 0)) → post (m, r, nI L.length, nI O.length, cur, a1, a2, a3, a4, a5, a6, a7, a)) :
    wpX_arrange post (m, r, nI L.length, mc, cur, a1, a2, a3, a4, a5, a6, a7, a8) := by
  have hL := hM.1
  refine pk_loop (fun n k (s : List Nat × (Nat → Int32)) => wX_arrange_7 post m r (nI L.length) cur n (nI k) (nI s.1.length) a1 a2 a3 a4 a5 a6 a7 s.2) (fun k s => fm_Or L k s.1 ∧ ∀ i, i < s.1.length → s.2 i = nI (s.1.getD i 0)) L.length 0 ([], a8) (by omega) ⟨fm_Or0, fun i hi => absurd hi (Nat.not_lt_zero i)⟩
    (fun n s h => pk_le L.length L.length (fun _ => H s.1 s.2 h.1 h.2) (fun z => absurd z (by omega))) ?_
  intro n k s hk h hw
  obtain ⟨O, s2⟩ := s
  dsimp only at h
  have hOl := fm_Orl h.1
  have hx := fm_Mlt hM hk
  have hp := fm_splt (L.getD k 0)
  have K : fm_kp L (L.getD k 0) = true → ∃ n', wX_arrange_52 post (wX_arrange_7 post m r (nI L.length) cur n) (nI k) (nI (fm_sp (L.getD k 0))) m r (nI L.length) (nI O.length) cur n' (nI O.length) a1 a2 a3 a4 a5 a6 a7 s2 := by
    intro hkp
    refine fm_a52 hM (by omega) (fun x hx => by have := h.1.2.1 x hx; omega) hp h.2 (fun t s ht g1 g2 g3 => ?_)
    have t' := hw (O.take t ++ k :: O.drop t, s) ⟨fm_OrI hk hkp h.1 ht g1 g2, fun i hi => g3 i (by rw [← fm_insl (k := k) ht]; exact hi)⟩
    dsimp only at t'
    rw [fm_insl ht] at t'
    exact t'
  refine pk_le L.length k (fun z => absurd z (by omega)) (fun _ => ?_)
  refine fm_sup hM hk rfl (nm_r (fm_loI _ hp) ⟨pk_in k 300 (by omega), ?_⟩)
  by_cases hz : fm_tn (L.getD k 0) ∈ L
  · refine br_f (by rw [nI_clamp (by omega), h7 k hk, if_pos hz]; decide) ⟨pk_in k 300 (by omega), ?_⟩
    have hlt2 : L.getD k 0 &&& fm_lo (fm_sp (L.getD k 0)) < 65536 := Nat.lt_of_le_of_lt Nat.and_le_left hx
    refine pk_eq (L.getD k 0 &&& fm_lo (fm_sp (L.getD k 0))) 0 (fun e => nm_r (nI_1 k) ?_) (fun e => K (fm_kp2 e)) (by rw [nI_clamp (by omega), hM.2.2 k hk, fm_and])
    exact hw (O, s2) ⟨fm_OrS hk (fm_kp0 hz e) h.1, h.2⟩
  · exact br_t (by rw [nI_clamp (by omega), h7 k hk, if_neg hz]) (K (fm_kp1 hz))
end
end
section
/-- the state behind refresh -/
def fm_F (c : Nat → Int32) (L O : List Nat) (u : St2) : Prop := ∃ (m : Int32) (a1 a2 a3 a4 a5 a6 a7 a8 : Nat → Int32), u = (m, 4, nI L.length, nI O.length, 1, a1, a2, a3, a4, a5, a6, a7, a8) ∧ fm_M L a5 ∧ fm_V c L a4 a5 ∧ (∀ k, k < L.length → a7 k = if fm_tn (L.getD k 0) ∈ L then 1 else 0) ∧ fm_Or L L.length O ∧ ∀ i, i < O.length → a8 i = nI (O.getD i 0)
/-- refresh leads there -/
def fm_Rf (c : Nat → Int32) (L : List Nat) (u : St2) : Prop := ∀ post : St2 → Prop, (∀ O u', fm_F c L O u' → post u') → wpX_refresh post u
theorem fm_sumc {f g : Nat → Int32} {n : Nat} (h : ∀ j, j < n → f j = g j) : fm_sum f n = fm_sum g n := by
  induction n with
  | zero => rfl
  | succ n ih =>
    show fm_sum f n + f n = fm_sum g n + g n
    rw [ih (fun j hj => h j (by omega)), h n (by omega)]
theorem fm_Lx {g : Nat → Nat} {S : List Nat} (hS : fm_ok S) : (fm_L g S).length < 300 ∧ ∀ x, x ∈ fm_L g S → x < 65536 := by
  have hl := hS.1
  constructor
  · have h1 : (S.filter (fun x => Nat.beq (g x) 0)).length ≤ S.length := List.length_filter_le _ _
    have h2 := fm_cbl g S S
    have h3 : S.length * S.length ≤ 8 * 8 := Nat.mul_le_mul hl hl
    unfold fm_L
    rw [List.length_append]
    omega
  · intro x hx
    unfold fm_L at hx
    rw [List.mem_append] at hx
    rcases hx with hx | hx
    · exact fm_Ult x (hS.2.1 x (List.mem_filter.mp hx).1)
    · unfold fm_cb at hx
      obtain ⟨p, hp, hx⟩ := List.mem_flatMap.mp hx
      unfold fm_rw at hx
      obtain ⟨q, hq, e⟩ := List.mem_map.mp hx
      rw [← e]
      exact fm_orlt (fm_Ult p (hS.2.1 p hp)) (fm_Ult q (hS.2.1 q (List.mem_filter.mp hq).1))
section
variable {post : St2 → Prop} {m r rays mc cur : Int32} {a1 a2 a3 a4 a5 a6 a7 a8 : Nat → Int32}
theorem fm_ref {c : Nat → Int32} {b g : Nat → Nat} (hc : fm_C c) (hg : ∀ x, x ∈ fm_U → fm_sc (fm_sd c x) = g x) (hb : ∀ j, j < 4 → b j < 2) (hS : fm_ok (fm_S b 4)) (h1 : ∀ j, j < 4 → a1 j = c j) (h2 : ∀ j, j < 4 → a2 j = nI (b j)) (h3 : ∀ j, j < 4 → a3 j = 1) :
    fm_Rf c (fm_L g (fm_S b 4)) (1, 4, rays, mc, 0, a1, a2, a3, a4, a5, a6, a7, a8) := by
  intro post H
  have hl := hS.1
  refine br_t rfl (fm_sta (c := c) hb h2 h3 (fun a a' hV => ⟨2, br_f (by decide) (fm_wei (by omega) (fun e6 h6 => ?_))⟩))
  refine fm_r34 hc hg hS (fun k hk => ?_) hV (fun d4 d5 hV' => br_t (by decide) ?_)
  · rw [h6 k hk]
    refine fm_sumc (fun j hj => ?_)
    have := (hV k hk).2.1 (hS.2.1 _ (fm_gm hk)) j (by omega)
    dsimp only at this
    rw [this, h1 j hj]
  · have hM : fm_M (fm_L g (fm_S b 4)) d5 := ⟨(fm_Lx hS).1, (fm_Lx hS).2, fun k hk => (hV' k hk).1⟩
    exact fm_ft hM (fun e7 h7 => fm_arr hM h7 (fun O e8 hO h8 => H O _ ⟨1, a1, a2, a3, d4, d5, e6, e7, e8, rfl, hM, hV', h7, hO, h8⟩))
theorem fm_rf1 {c : Nat → Int32} {L O : List Nat} {u : St2} (hF : fm_F c L O u) (h : post u) : wpX_refresh post u := by
  obtain ⟨m, a1, a2, a3, a4, a5, a6, a7, a8, rfl, _⟩ := hF
  exact br_f (by decide) h
theorem fm_rf2 {c : Nat → Int32} {L O : List Nat} {u : St2} (hF : fm_F c L O u) : fm_Rf c L u := fun post H => fm_rf1 hF (H O u hF)
/-- what find answers -/
def fm_fd (L O : List Nat) (sx : Nat) (x : Int32) : Prop := (∃ i, i < O.length ∧ fm_sp (L.getD (O.getD i 0) 0) = sx ∧ x = nI i) ∨ (x = -1 ∧ ∀ i, i < O.length → fm_sp (L.getD (O.getD i 0) 0) ≠ sx)
theorem fm_f14 {post : Int32 → St2 → Prop} {L O : List Nat} {sx : Nat} (hs : sx < 256) (hM : fm_M L a5) (hO : fm_Or L L.length O) (h8 : ∀ i, i < O.length → a8 i = nI (O.getD i 0))
    (H : ∀ x, fm_fd L O sx x → post x (m, r, rays, nI O.length, cur, a1, a2, a3, a4, a5, a6, a7, a8)) :
    ∃ n, wX_find_14 post (nI sx) m r rays (nI O.length) cur a1 a2 a3 a4 a5 a6 a7 a8 n 0 (nI O.length) 0 := by
  have hL := hM.1
  have hOl := fm_Orl hO
  have hlt : ∀ i, i < O.length → O.getD i 0 < L.length := fun i hi => hO.2.1 _ (fm_gm hi)
  have E : ∀ low, low ≤ O.length → (∀ i, i < low → fm_sp (L.getD (O.getD i 0) 0) < sx) → (∀ i, low ≤ i → i < O.length → sx ≤ fm_sp (L.getD (O.getD i 0) 0)) → wX_find_69 post (nI sx) (nI low) m r rays (nI O.length) cur a1 a2 a3 a4 a5 a6 a7 a8 := by
    intro low hl h1 h2
    refine pk_eq low O.length (fun e => H _ (Or.inr ⟨rfl, fun i hi => ?_⟩)) (fun e => ⟨pk_in low 300 (by omega), fm_sup hM (hlt low (by omega)) (by rw [nI_clamp (by omega)]; exact h8 low (by omega)) ?_⟩)
    · have := h1 i (by omega)
      omega
    · have hp := fm_splt (L.getD (O.getD low 0) 0)
      refine pk_eq (fm_sp (L.getD (O.getD low 0) 0)) sx (fun z => H _ (Or.inl ⟨low, by omega, z, rfl⟩)) (fun z => H _ (Or.inr ⟨rfl, fun i hi => ?_⟩))
      by_cases c1 : i < low
      · have := h1 i c1
        omega
      · have g1 := h2 low (Nat.le_refl _) (by omega)
        by_cases c2 : i = low
        · rw [c2]; exact z
        · have := hO.2.2 low i (by omega) hi
          omega
  refine pk_loop (fun n k (s : Nat × Nat) => wX_find_14 post (nI sx) m r rays (nI O.length) cur a1 a2 a3 a4 a5 a6 a7 a8 n (nI s.1) (nI s.2) (nI k))
    (fun k s => s.1 ≤ s.2 ∧ s.2 ≤ O.length ∧ s.2 - s.1 < 2 ^ (10 - k) ∧ (∀ i, i < s.1 → fm_sp (L.getD (O.getD i 0) 0) < sx) ∧ ∀ i, s.2 ≤ i → i < O.length → sx ≤ fm_sp (L.getD (O.getD i 0) 0)) 10 0 (0, O.length) (by omega) ⟨by omega, Nat.le_refl _, by show O.length - 0 < 1024; omega, fun i hi => absurd hi (Nat.not_lt_zero i), fun i h1 h2 => absurd h2 (by omega)⟩ ?_ ?_
  · intro n s ⟨h1, h2, h3, h4, h5⟩
    have h3 : s.2 - s.1 < 1 := h3
    exact pk_le 10 10 (fun _ => E s.1 (by omega) h4 (fun i g1 g2 => h5 i (by omega) g2)) (fun z => absurd z (by omega))
  · intro n k s hk ⟨h1, h2, h3, h4, h5⟩ hw
    obtain ⟨low, high⟩ := s
    dsimp only at h1 h2 h3 h4 h5
    have hpw : 2 ^ (10 - k) = 2 * 2 ^ (10 - (k + 1)) := by
      rw [show 10 - k = (10 - (k + 1)) + 1 by omega, Nat.pow_succ, Nat.mul_comm]
    rw [hpw] at h3
    refine pk_le 10 k (fun z => absurd z (by omega)) (fun _ => pk_le high low (fun z => E low (by omega) h4 (fun i g1 g2 => h5 i (by omega) g2)) (fun z => ?_))
    refine nm_r (e' := nI ((low + high) / 2)) ?_ ⟨pk_in ((low + high) / 2) 300 (by omega), ?_⟩
    · dsimp only
      rw [nI_add, pk_shrN (by omega) _ 1 (by decide)]
    · have hmid : (low + high) / 2 < O.length := by omega
      have hp := fm_splt (L.getD (O.getD ((low + high) / 2) 0) 0)
      refine fm_sup hM (hlt _ hmid) (by rw [nI_clamp (by omega)]; exact h8 _ hmid) ?_
      refine pk_le sx (fm_sp (L.getD (O.getD ((low + high) / 2) 0) 0)) (fun g => nm_r (nI_1 k) (hw (low, (low + high) / 2) ⟨by dsimp only; omega, by dsimp only; omega, by dsimp only; omega, h4, fun i g1 g2 => ?_⟩)) (fun g => nm_r (nI_1 _) (nm_r (nI_1 k) (hw ((low + high) / 2 + 1, high) ⟨by dsimp only; omega, h2, by dsimp only; omega, fun i g1 => ?_, h5⟩)))
      · dsimp only at g1
        by_cases c : i = (low + high) / 2
        · rw [c]; exact g
        · exact Nat.le_trans g (hO.2.2 _ i (by omega) g2)
      · dsimp only at g1
        by_cases c : i = (low + high) / 2
        · rw [c]; exact g
        · exact Nat.lt_of_le_of_lt (hO.2.2 i _ (by omega) hmid) g
theorem fm_fin {post : Int32 → St2 → Prop} {c : Nat → Int32} {L : List Nat} {x : Int32} {sx : Nat} (hs : sx < 256) (hx : x = nI sx) (hR : fm_Rf c L (m, r, rays, mc, cur, a1, a2, a3, a4, a5, a6, a7, a8)) (H : ∀ O u x, fm_F c L O u → fm_fd L O sx x → post x u) :
    wpX_find post (m, r, rays, mc, cur, a1, a2, a3, a4, a5, a6, a7, a8) x := by
  subst hx
  refine hR _ (fun O u' hF => ?_)
  have hF' := hF
  obtain ⟨m, b1, b2, b3, b4, b5, b6, b7, b8, rfl, hM, hV, h7, hO, h8⟩ := hF
  exact fm_f14 hs hM hO h8 (fun x hx => H O _ x hF' hx)
/-- find, on the state behind refresh -/
theorem fm_fi1 {post : Int32 → St2 → Prop} {c : Nat → Int32} {L O : List Nat} {u : St2} {x : Int32} {sx : Nat} (hs : sx < 256) (hx : x = nI sx) (hF : fm_F c L O u) (H : ∀ x, fm_fd L O sx x → post x u) :
    wpX_find post u x := by
  subst hx
  obtain ⟨m, b1, b2, b3, b4, b5, b6, b7, b8, rfl, hM, hV, h7, hO, h8⟩ := hF
  exact br_f (by decide) (fm_f14 hs hM hO h8 H)
theorem fm_mod {post : Int32 → St2 → Prop} {c : Nat → Int32} {L : List Nat} (hR : fm_Rf c L (m, r, rays, mc, cur, a1, a2, a3, a4, a5, a6, a7, a8)) (H : ∀ u, post (nI (fm_K L).length) u) :
    wpX_modes post (m, r, rays, mc, cur, a1, a2, a3, a4, a5, a6, a7, a8) := by
  refine hR _ (fun O u' hF => ?_)
  obtain ⟨m, b1, b2, b3, b4, b5, b6, b7, b8, rfl, hM, hV, h7, hO, h8⟩ := hF
  have e := hO.1.length_eq
  rw [List.length_map, List.take_length] at e
  show post (nI O.length) _
  rw [e]
  exact H _
theorem fm_flu {post : Int32 → St2 → Prop} {c : Nat → Int32} {L O : List Nat} {u : St2} {i j : Nat} (hF : fm_F c L O u) (hi : i < O.length) (hj : j < 4) (H : post (u.2.2.2.2.2.2.2.2.1 (8 * O.getD i 0 + j)) u) : wpX_flux post u (nI i) (nI j) := by
  obtain ⟨m, b1, b2, b3, b4, b5, b6, b7, b8, rfl, hM, hV, h7, hO, h8⟩ := hF
  have hL := hM.1
  have hOl := fm_Orl hO
  have hlt : O.getD i 0 < L.length := hO.2.1 _ (fm_gm hi)
  refine br_f (by decide) (br_f (nI_pos (by omega)) (br_f (nI_ge hi (by omega)) (br_f (by decide) (br_f (nI_pos (by omega)) (br_f (nI_ge (b := 4) hj (by decide)) (br_f (by decide) ⟨pk_in i 300 (by omega), pk_in (8 * O.getD i 0 + j) 2400 (by omega) ?_, ?_⟩))))))
  · rw [nI_clamp (by omega), h8 i hi, fm_ix]
  · rw [nI_clamp (by omega), h8 i hi, fm_ix, nI_clamp (by omega)]
    exact H
theorem fm_row {c : Nat → Int32} {L O : List Nat} {u : St2} {i : Nat} (hF : fm_F c L O u) (hi : i < O.length) : fm_R c (L.getD (O.getD i 0) 0) (fun j => u.2.2.2.2.2.2.2.2.1 (8 * O.getD i 0 + j)) := by
  obtain ⟨m, b1, b2, b3, b4, b5, b6, b7, b8, rfl, hM, hV, h7, hO, h8⟩ := hF
  exact (hV _ (hO.2.1 _ (fm_gm hi))).2
theorem fm_inK {c : Nat → Int32} {L O : List Nat} {u : St2} (hF : fm_F c L O u) : (∀ i, i < O.length → L.getD (O.getD i 0) 0 ∈ fm_K L) ∧ ∀ x, x ∈ fm_K L → ∃ i, i < O.length ∧ L.getD (O.getD i 0) 0 = x := by
  obtain ⟨m, b1, b2, b3, b4, b5, b6, b7, b8, rfl, hM, hV, h7, hO, h8⟩ := hF
  have P := hO.1
  rw [List.take_length] at P
  refine ⟨fun i hi => P.mem_iff.mp (List.mem_map.mpr ⟨_, fm_gm hi, rfl⟩), fun x hx => ?_⟩
  obtain ⟨y, hy, e⟩ := List.mem_map.mp (P.mem_iff.mpr hx)
  obtain ⟨i, hi, e2⟩ := fm_mg hy
  exact ⟨i, hi, by rw [e2]; exact e⟩
theorem fm_tur {post : Int32 → St2 → Prop} {c : Nat → Int32} {L O : List Nat} {u : St2} {i : Nat} (hF : fm_F c L O u) (hi : i < O.length) (H1 : fm_tn (L.getD (O.getD i 0) 0) ∈ L → post 1 u) (H0 : ¬ fm_tn (L.getD (O.getD i 0) 0) ∈ L → post 0 u) : wpX_turnable post u (nI i) := by
  obtain ⟨m, b1, b2, b3, b4, b5, b6, b7, b8, rfl, hM, hV, h7, hO, h8⟩ := hF
  have hL := hM.1
  have hOl := fm_Orl hO
  have hlt : O.getD i 0 < L.length := hO.2.1 _ (fm_gm hi)
  refine br_f (by decide) (br_f (nI_pos (by omega)) (br_f (nI_ge hi (by omega)) (br_f (by decide) ⟨pk_in i 300 (by omega), pk_in (O.getD i 0) 300 (by omega) (by rw [nI_clamp (by omega), h8 i hi]), ?_⟩)))
  rw [nI_clamp (by omega), h8 i hi, nI_clamp (by omega), h7 _ hlt]
  by_cases h : fm_tn (L.getD (O.getD i 0) 0) ∈ L
  · rw [if_pos h]
    exact br_f (by decide) (H1 h)
  · rw [if_neg h]
    exact br_t rfl (H0 h)
theorem fm_car {post : Int32 → St2 → Prop} {c : Nat → Int32} {L O : List Nat} {u : St2} {j : Nat} (hF : fm_F c L O u) (hj : j < 4) (H1 : (∃ x, x ∈ L ∧ x &&& 2 ^ j ≠ 0) → post 1 u) (H0 : (∀ x, x ∈ L → x &&& 2 ^ j = 0) → post 0 u) : wpX_carries post u (nI j) 1 := by
  obtain ⟨m, b1, b2, b3, b4, b5, b6, b7, b8, rfl, hM, hV, h7, hO, h8⟩ := hF
  have hL := hM.1
  refine br_f (nI_pos (by omega)) (br_f (nI_ge (b := 4) hj (by decide)) (br_f (by decide) (br_f (by decide) (br_f (by decide) (br_f (by decide) (nm_r (fm_bit j hj).1 ?_))))))
  refine pk_loop (σ := Unit) (fun n k _ => wX_carries_40 post (nI (2 ^ j)) m 4 (nI L.length) (nI O.length) 1 b1 b2 b3 b4 b5 b6 b7 b8 n (nI k)) (fun k _ => ∀ l, l < k → L.getD l 0 &&& 2 ^ j = 0) L.length 0 () (by omega) (fun l hl => absurd hl (by omega)) (fun n _ h => pk_le L.length L.length (fun _ => H0 (fun x hx => ?_)) (fun z => absurd z (by omega))) ?_
  · obtain ⟨k, hk, e⟩ := fm_mg hx
    rw [← e]
    exact h k hk
  · intro n k _ hk h hw
    have hlt : L.getD k 0 &&& 2 ^ j < 65536 := Nat.lt_of_le_of_lt Nat.and_le_left (fm_Mlt hM hk)
    refine pk_le L.length k (fun z => absurd z (by omega)) (fun _ => ⟨pk_in k 300 (by omega), pk_eq (L.getD k 0 &&& 2 ^ j) 0 (fun e => nm_r (nI_1 k) (hw () (fun l hl => ?_))) (fun e => H1 ⟨_, fm_gm hk, e⟩) (by rw [nI_clamp (by omega), hM.2.2 k hk, fm_and])⟩)
    by_cases c : l = k
    · rw [c]; exact e
    · exact h l (by omega)
end
end
section
/-- what the law rests on -/
def fm_FA (s b : Nat → Nat) (L K : List Nat) : Prop := K.length = fm_n s b 4 ∧ ∀ j, j < 4 → ((∃ x, x ∈ K ∧ fm_sp x = 2 ^ j) ↔ s j = 0) ∧ (∀ x, x ∈ K → fm_sp x = 2 ^ j → x = 2 ^ j) ∧ ((∃ x, x ∈ L ∧ x &&& 2 ^ j ≠ 0) ↔ fm_fw s b j 4 = true) ∧
  ∀ k, k < 4 → j < k → ((∃ x, x ∈ K ∧ fm_sp x = 2 ^ j ||| 2 ^ k) ↔ fm_pr s b j k = true) ∧ ∀ x, x ∈ K → fm_sp x = 2 ^ j ||| 2 ^ k → (fm_tn x ∈ L ↔ (b j = 1 ∧ b k = 1))
theorem fm_anx {K : List Nat} {P : Nat → Nat} {y : Nat} : K.any (fun x => Nat.beq (P x) y) = true ↔ ∃ x, x ∈ K ∧ P x = y := by
  rw [List.any_eq_true]
  constructor
  · intro ⟨x, hx, e⟩; exact ⟨x, hx, fm_bt.mp e⟩
  · intro ⟨x, hx, e⟩; exact ⟨x, hx, fm_bt.mpr e⟩
theorem fm_any2 {K : List Nat} {P : Nat → Nat} {y : Nat} : K.any (fun x => !(Nat.beq (P x) y)) = true ↔ ∃ x, x ∈ K ∧ P x ≠ y := by
  rw [List.any_eq_true]
  constructor
  · intro ⟨x, hx, e⟩
    rw [Bool.not_eq_true'] at e
    exact ⟨x, hx, fm_bf.mp e⟩
  · intro ⟨x, hx, e⟩
    refine ⟨x, hx, ?_⟩
    rw [Bool.not_eq_true']
    exact fm_bf.mpr e
theorem fm_imp {A B : Bool} (h : (!A || B) = true) (ha : A = true) : B = true := by
  rw [ha] at h
  exact h
theorem fm_blt {j k : Nat} : Nat.blt j k = true ↔ j < k := ⟨fun h => Nat.le_of_ble_eq_true h, fun h => Nat.ble_eq_true_of_le h⟩
theorem fm_fac {s b : Nat → Nat} {L K : List Nat} (h : fm_c0 s b L K = true) : fm_FA s b L K := by
  unfold fm_c0 at h
  rw [Bool.and_eq_true] at h
  refine ⟨fm_bt.mp h.1, fun j hj => ?_⟩
  have h1 : fm_c1 s b L K j = true := fm_ra (f := fun j => fm_c1 s b L K j) h.2 hj
  unfold fm_c1 at h1
  rw [Bool.and_eq_true, Bool.and_eq_true, Bool.and_eq_true] at h1
  obtain ⟨g1, g2, g3, g4⟩ := h1
  have g1 := eq_of_beq g1
  have g3 := eq_of_beq g3
  refine ⟨?_, fun x hx e => ?_, ?_, fun k hk hjk => ?_⟩
  · rw [← fm_anx (P := fm_sp), g1, fm_bt]
  · exact fm_bt.mp (fm_imp (List.all_eq_true.mp g2 x hx) (fm_bt.mpr e))
  · rw [← fm_any2 (P := fun x => x &&& 2 ^ j), g3]
  · have h2 : fm_c2 s b L K j k = true := fm_imp (fm_ra (f := fun k => !(Nat.blt j k) || fm_c2 s b L K j k) g4 hk) (fm_blt.mpr hjk)
    unfold fm_c2 at h2
    rw [Bool.and_eq_true] at h2
    obtain ⟨k1, k2⟩ := h2
    have k1 := eq_of_beq k1
    refine ⟨?_, fun x hx e => ?_⟩
    · rw [← fm_anx (P := fm_sp), k1]
    · have k3 := eq_of_beq (fm_imp (List.all_eq_true.mp k2 x hx) (fm_bt.mpr e))
      rw [← fm_any, k3, Bool.and_eq_true, fm_bt, fm_bt]
/-- the law's part -/
def fm_pt (code : Int32) (j : Nat) : Int32 := (((code >>> ((3 * nI j) &&& 31)) &&& 7) - ((code >>> ((3 * nI j) &&& 31)) &&& 7) / 7 * 7) - 3
theorem fm_ptC (code : Int32) : fm_C (fm_pt code) := by
  intro j hj
  obtain ⟨t, ht, e⟩ := pk_andE (code >>> ((3 * nI j) &&& 31)) (m := 7) 3 (by decide)
  have ht : t < 8 := ht
  refine ⟨t % 7, Nat.mod_lt _ (by decide), ?_⟩
  unfold fm_pt fm_t
  rw [e, show (7 : Int32) = nI 7 from rfl, pk_rem (by omega) (by decide) (by decide)]
theorem fm_tr : ∀ t, t < 7 → ¬ fm_t t < -3 ∧ fm_t t ≤ 3 := by decide +kernel
theorem fm_scl (v : Int32) : fm_sc v < 3 := by
  unfold fm_sc
  by_cases h : v = 0
  · rw [if_pos h]; decide
  · rw [if_neg h]
    by_cases h2 : v ≤ 0
    · rw [if_pos h2]; decide
    · rw [if_neg h2]; decide
/-- a bit of ways -/
def fm_wb (ways : Int32) (j : Nat) : Nat := ((ways >>> (nI j &&& 31)) &&& 1).toNatClampNeg
theorem fm_wbb (ways : Int32) (j : Nat) : fm_wb ways j < 2 ∧ (ways >>> (nI j &&& 31)) &&& 1 = nI (fm_wb ways j) := by
  obtain ⟨t, ht, e⟩ := pk_andE (ways >>> (nI j &&& 31)) (m := 1) 1 (by decide)
  have ht : t < 2 := ht
  unfold fm_wb
  rw [e, nI_clamp (by omega)]
  exact ⟨ht, rfl⟩
theorem fm_a11 (x y : Int32) : (x &&& y) &&& 1 = (x &&& 1) &&& (y &&& 1) := by
  apply Int32.toBitVec_inj.1
  rw [Int32.toBitVec_and, Int32.toBitVec_and, Int32.toBitVec_and, Int32.toBitVec_and, Int32.toBitVec_and]
  apply BitVec.eq_of_getLsbD_eq
  intro i hi
  rw [BitVec.getLsbD_and, BitVec.getLsbD_and, BitVec.getLsbD_and, BitVec.getLsbD_and, BitVec.getLsbD_and]
  cases x.toBitVec.getLsbD i <;> cases y.toBitVec.getLsbD i <;> cases (1 : Int32).toBitVec.getLsbD i <;> rfl
theorem fm_ngv {v : Int32} (h1 : -3 ≤ v) (h2 : v ≤ 3) (h3 : ¬ 0 ≤ v) : -v ≤ 3 := by
  have e1 : (-3 : Int32).toInt = -3 := by decide
  have e2 : (3 : Int32).toInt = 3 := by decide
  rw [Int32.le_iff_toInt_le, e1] at h1
  rw [Int32.le_iff_toInt_le, e2] at h2
  rcases fm_abs (v := v) (by omega) (by omega) with ⟨z, _⟩ | ⟨_, z⟩
  · exact absurd z h3
  · rw [z]
    exact nI_le (b := 3) (by omega) (by decide)
def fm_bI (b : Bool) : Int32 := bif b then 1 else 0
/-- the law's frame -/
def fm_X (code ways : Int32) (s b : Nat → Nat) (L : List Nat) : Prop := (∀ j, j < 4 → s j = fm_sc (fm_pt code j)) ∧ (∀ j, j < 4 → b j < 2 ∧ (ways >>> (nI j &&& 31)) &&& 1 = nI (b j)) ∧ fm_FA s b L (fm_K L)
theorem fm_f4 {α : Type} {f : Nat → α} {j : Nat} (hj : j < 4) : fm_f (f 0) (f 1) (f 2) (f 3) j = f j := by
  have h4 : j = 0 ∨ j = 1 ∨ j = 2 ∨ j = 3 := by omega
  rcases h4 with rfl | rfl | rfl | rfl <;> rfl
end
section
section
variable {post : Int32 → St0 → Prop} {mc ms kc ks : Nat} {m r rays mcn cur : Int32} {a1 a2 a3 a4 a5 a6 a7 a8 : Nat → Int32} {code ways : Int32} {s b : Nat → Nat} {L O : List Nat}
variable {J55 : Int32 → Int32 → Int32 → Int32 → Int32 → Int32 → Int32 → (Nat → Int32) → (Nat → Int32) → (Nat → Int32) → (Nat → Int32) → (Nat → Int32) → (Nat → Int32) → (Nat → Int32) → (Nat → Int32) → Prop}
variable {J146 : Int32 → Int32 → Int32 → Int32 → Int32 → Int32 → Int32 → Int32 → (Nat → Int32) → (Nat → Int32) → (Nat → Int32) → (Nat → Int32) → (Nat → Int32) → (Nat → Int32) → (Nat → Int32) → (Nat → Int32) → Prop}
theorem fm_l353 {x3 x4 : Int32} {j k : Nat} {fw pr : Bool} (hX : fm_X code ways s b L) (hj : j < 4) (hk : k < 4)
    (hJ : J146 x3 (fm_bI (fw || (pr && ((Nat.beq (s j) 1 != Nat.beq (s k) 1) || Nat.beq (b k) 1)))) (nI (k + 1)) m r rays mcn cur a1 a2 a3 a4 a5 a6 a7 a8) :
    wL_lawOf_353 post mc ms J55 J146 code ways x3 x4 (fm_pt code j) (fm_bI fw) (nI k) (fm_pt code k) (fm_bI pr) kc ks m r rays mcn cur a1 a2 a3 a4 a5 a6 a7 a8 := by
  cases pr with
  | false =>
    rw [Bool.false_and, Bool.or_false] at hJ
    exact br_t rfl (nm_r (nI_1 k) hJ)
  | true =>
    refine br_f (by decide) ?_
    rw [Bool.true_and] at hJ
    have Q : ∀ z0 z1 : Bool, z1 = Nat.beq (s j) 1 → z0 = Nat.beq (s k) 1 → wL_lawOf_378 post mc ms J55 J146 code ways x3 x4 (fm_pt code j) (fm_bI fw) (nI k) (fm_bI z0) (fm_bI z1) kc ks m r rays mcn cur a1 a2 a3 a4 a5 a6 a7 a8 := by
      intro z0 z1 e1 e0
      rw [← e1, ← e0] at hJ
      have hb := hX.2.1 k hk
      have B : z1 = z0 → wL_lawOf_378 post mc ms J55 J146 code ways x3 x4 (fm_pt code j) (fm_bI fw) (nI k) (fm_bI z0) (fm_bI z1) kc ks m r rays mcn cur a1 a2 a3 a4 a5 a6 a7 a8 := by
        intro e
        rw [e, bne_self_eq_false, Bool.false_or] at hJ
        refine br_t (by rw [e]) ?_
        refine pk_eq (b k) 1 (fun e => nm_r (nI_1 k) ?_) (fun e => nm_r (nI_1 k) ?_) hb.2
        · rw [fm_bt.mpr e, Bool.or_true] at hJ
          exact hJ
        · rw [fm_bf.mpr e, Bool.or_false] at hJ
          exact hJ
      cases z0 <;> cases z1
      · exact B rfl
      · rw [show (true != false) = true from rfl, Bool.true_or, Bool.or_true] at hJ
        exact br_f (by decide) (nm_r (nI_1 k) hJ)
      · rw [show (false != true) = true from rfl, Bool.true_or, Bool.or_true] at hJ
        exact br_f (by decide) (nm_r (nI_1 k) hJ)
      · exact B rfl
    have S : ∀ i, i < 4 → (fm_pt code i ≤ 0 → false = Nat.beq (s i) 1) ∧ (¬ fm_pt code i ≤ 0 → true = Nat.beq (s i) 1) := by
      intro i hi
      rw [hX.1 i hi]
      exact ⟨fun z => (fm_bf.mpr (fun y => fm_sc1.mp y z)).symm, fun z => (fm_bt.mpr (fm_sc1.mpr z)).symm⟩
    exact br_c (fun z => br_c (fun y => Q false false ((S j hj).1 z) ((S k hk).1 y)) (fun y => Q true false ((S j hj).1 z) ((S k hk).2 y)))
      (fun z => br_c (fun y => Q false true ((S j hj).2 z) ((S k hk).1 y)) (fun y => Q true true ((S j hj).2 z) ((S k hk).2 y)))
theorem fm_l250 {x7 x12 : Int32} {j k N : Nat} {pr : Bool} (hX : fm_X code ways s b L) (hF : fm_F (fm_pt code) L O (m, r, rays, mcn, cur, a1, a2, a3, a4, a5, a6, a7, a8)) (hj : j < 4) (hk : k < 4)
    (hi : j < k → pr = true → ∃ i, i < O.length ∧ fm_sp (L.getD (O.getD i 0) 0) = 2 ^ j ||| 2 ^ k ∧ x12 = nI i)
    (H : wL_lawOf_353 post mc ms J55 J146 code ways (nI (N + (bif Nat.blt j k && pr then 1 else 0))) (nI j) (fm_pt code j) x7 (nI k) (fm_pt code k) (fm_bI pr) kc ks m r rays mcn cur a1 a2 a3 a4 a5 a6 a7 a8) :
    wL_lawOf_250 post mc ms J55 J146 code ways (nI N) (nI j) (fm_pt code j) x7 (nI k) (fm_pt code k) (fm_bI pr) x12 kc ks m r rays mcn cur a1 a2 a3 a4 a5 a6 a7 a8 := by
  refine pk_le k j (fun z => ?_) (fun z => ?_)
  · have e : Nat.blt j k = false := by
      cases e : Nat.blt j k
      · rfl
      · have := fm_blt.mp e
        omega
    rw [e, Bool.false_and] at H
    exact H
  · cases pr with
    | false =>
      rw [Bool.and_false] at H
      exact br_t rfl H
    | true =>
      rw [fm_blt.mpr z] at H
      obtain ⟨i, hi1, hi2, rfl⟩ := hi z rfl
      have R := (fm_row hF hi1).2 j k hj hk (by omega) hi2
      dsimp only at R
      have TN := (hX.2.2.2 j hj).2.2.2 k hk z
      have TK := TN.2 _ ((fm_inK hF).1 i hi1) hi2
      have bj := hX.2.1 j hj
      have bk := hX.2.1 k hk
      have TT : wpX_turnable (fun r_284 u => match u with | (fm0_m_285, fm0_r_286, fm0_rays_287, fm0_modeCount_288, fm0_current_289, am3341_292, am3342_295, am3343_298, am3344_301, am3345_304, am3346_307, am3347_310, am3348_313) => (((r_284 = (((ways >>> (nI j &&& 31)) &&& (ways >>> (nI k &&& 31))) &&& 1) → (wL_lawOf_353 post mc ms J55 J146 code ways (nI (N + 1)) (nI j) (fm_pt code j) x7 (nI k) (fm_pt code k) (fm_bI true) kc ks fm0_m_285 fm0_r_286 fm0_rays_287 fm0_modeCount_288 fm0_current_289 am3341_292 am3342_295 am3343_298 am3344_301 am3345_304 am3346_307 am3347_310 am3348_313)) ∧ (¬ r_284 = (((ways >>> (nI j &&& 31)) &&& (ways >>> (nI k &&& 31))) &&& 1) → (post 0 ()))))) (m, r, rays, mcn, cur, a1, a2, a3, a4, a5, a6, a7, a8) (nI i) := by
        rw [fm_a11, bj.2, bk.2]
        refine fm_tur hF hi1 (fun t => br_t ?_ H) (fun t => br_t ?_ H)
        · have := TK.mp t
          rw [this.1, this.2]
          rfl
        · have : b j = 0 ∨ b k = 0 := by
            have h1 := bj.1
            have h2 := bk.1
            by_cases c1 : b j = 1
            · by_cases c2 : b k = 1
              · exact absurd (TK.mpr ⟨c1, c2⟩) t
              · omega
            · omega
          rcases this with e | e
          · rw [e, fm_and, Nat.zero_and]
            rfl
          · rw [e, fm_and, Nat.and_zero]
            rfl
      refine br_f (by decide) (nm_r (nI_1 N) (fm_flu hF hi1 hj (nm_e (fm_flu hF hi1 hk (nm_e (fm_flu hF hi1 hj (br_t R.1 (br_f R.2.1 (br_c (fun y => br_t R.2.2.2 TT) (fun y => br_t (fm_ngv R.2.2.1 R.2.2.2 y) TT))))))))))
theorem fm_l209 {x7 : Int32} {j k N : Nat} (hX : fm_X code ways s b L) (hF : fm_F (fm_pt code) L O (m, r, rays, mcn, cur, a1, a2, a3, a4, a5, a6, a7, a8)) (hj : j < 4) (hk : k < 4)
    (H : wL_lawOf_353 post mc ms J55 J146 code ways (nI (N + (bif Nat.blt j k && fm_pr s b j k then 1 else 0))) (nI j) (fm_pt code j) x7 (nI k) (fm_pt code k) (fm_bI (fm_pr s b j k)) kc ks m r rays mcn cur a1 a2 a3 a4 a5 a6 a7 a8) :
    wL_lawOf_209 post mc ms J55 J146 code ways (nI N) (nI j) (fm_pt code j) x7 (nI k) (fm_pt code k) (fm_bI (fm_pr s b j k)) kc ks m r rays mcn cur a1 a2 a3 a4 a5 a6 a7 a8 := by
  have hlt : 2 ^ j ||| 2 ^ k < 256 := Nat.or_lt_two_pow (n := 8) (Nat.pow_lt_pow_right (by decide) (by omega)) (Nat.pow_lt_pow_right (by decide) (by omega))
  refine fm_fi1 (sx := 2 ^ j ||| 2 ^ k) hlt (by rw [(fm_bit j hj).1, (fm_bit k hk).1, fm_or]) hF (fun x hx => ?_)
  refine pk_le k j (fun z => fm_l250 hX hF hj hk (fun y _ => absurd y (by omega)) H) (fun z => ?_)
  have TN := ((hX.2.2.2 j hj).2.2.2 k hk z).1
  rcases hx with ⟨i, hi1, hi2, rfl⟩ | ⟨rfl, hn⟩
  · have e : fm_pr s b j k = true := TN.mp ⟨_, (fm_inK hF).1 i hi1, hi2⟩
    rw [e] at H ⊢
    have hOl : O.length < 300 := by
      obtain ⟨m, b1, b2, b3, b4, b5, b6, b7, b8, _, hM, hV, h7, hO, h8⟩ := hF
      have := fm_Orl hO
      have := hM.1
      omega
    exact br_f (nI_pos (by omega)) (br_t rfl (fm_l250 hX hF hj hk (fun _ _ => ⟨i, hi1, hi2, rfl⟩) H))
  · have e : fm_pr s b j k = false := by
      cases e : fm_pr s b j k
      · rfl
      · obtain ⟨x, hx1, hx2⟩ := TN.mpr e
        obtain ⟨i, hi1, hi2⟩ := (fm_inK hF).2 x hx1
        exact absurd (by rw [hi2]; exact hx2) (hn i hi1)
    rw [e] at H ⊢
    exact br_t (by decide) (br_t rfl (fm_l250 hX hF hj hk (fun _ y => absurd y (by decide)) H))
/-- balance -/
theorem fm_bal {post : Int32 → Prop} {p q : Int32} {ow : Bool} (H : post (fm_bI (!(Nat.beq (fm_sc p) 0) && (!(Nat.beq (fm_sc q) 0) && ((Nat.beq (fm_sc p) 1 != Nat.beq (fm_sc q) 1) || !ow))))) : wpL_balance post () p q (fm_bI ow) := by
  by_cases hp : p = 0
  · rw [fm_bt.mpr (fm_sc0.mpr hp)] at H
    exact br_t hp H
  · rw [fm_bf.mpr (fun y => hp (fm_sc0.mp y))] at H
    refine br_f hp ?_
    by_cases hq : q = 0
    · rw [fm_bt.mpr (fm_sc0.mpr hq)] at H
      exact br_t hq H
    · rw [fm_bf.mpr (fun y => hq (fm_sc0.mp y)), Bool.not_false, Bool.true_and, Bool.true_and] at H
      refine br_f hq ?_
      by_cases h1 : p ≤ 0
      · rw [fm_bf.mpr (fun y => fm_sc1.mp y h1)] at H
        refine br_t h1 ?_
        by_cases h2 : q ≤ 0
        · rw [fm_bf.mpr (fun y => fm_sc1.mp y h2)] at H
          refine br_t h2 (br_t rfl ?_)
          cases ow
          · exact br_t rfl H
          · exact br_f (by decide) H
        · rw [fm_bt.mpr (fm_sc1.mpr h2)] at H
          exact br_f h2 (br_f (by decide) H)
      · rw [fm_bt.mpr (fm_sc1.mpr h1)] at H
        refine br_f h1 ?_
        by_cases h2 : q ≤ 0
        · rw [fm_bf.mpr (fun y => fm_sc1.mp y h2)] at H
          exact br_t h2 (br_f (by decide) H)
        · rw [fm_bt.mpr (fm_sc1.mpr h2)] at H
          refine br_f h2 (br_t rfl ?_)
          cases ow
          · exact br_t rfl H
          · exact br_f (by decide) H
theorem fm_l183 {x7 : Int32} {j k N : Nat} (hX : fm_X code ways s b L) (hF : fm_F (fm_pt code) L O (m, r, rays, mcn, cur, a1, a2, a3, a4, a5, a6, a7, a8)) (hj : j < 4) (hk : k < 4)
    (H : wL_lawOf_353 post mc ms J55 J146 code ways (nI (N + (bif Nat.blt j k && fm_pr s b j k then 1 else 0))) (nI j) (fm_pt code j) x7 (nI k) (fm_pt code k) (fm_bI (fm_pr s b j k)) kc ks m r rays mcn cur a1 a2 a3 a4 a5 a6 a7 a8) :
    wL_lawOf_183 post mc ms J55 J146 code ways (nI N) (nI j) (fm_pt code j) x7 (nI k) (fm_pt code k) (fm_bI (Nat.beq (b j) 0 && Nat.beq (b k) 0)) kc ks m r rays mcn cur a1 a2 a3 a4 a5 a6 a7 a8 := by
  have Q := fm_l209 hX hF hj hk H
  refine pk_eq k j (fun e => ?_) (fun e => ?_)
  · have e2 : fm_pr s b j k = false := by
      unfold fm_pr
      rw [fm_bt.mpr e]
      rfl
    rw [e2] at Q
    exact Q
  · have e2 : fm_pr s b j k = (!(Nat.beq (fm_sc (fm_pt code j)) 0) && (!(Nat.beq (fm_sc (fm_pt code k)) 0) && ((Nat.beq (fm_sc (fm_pt code j)) 1 != Nat.beq (fm_sc (fm_pt code k)) 1) || !(Nat.beq (b j) 0 && Nat.beq (b k) 0)))) := by
      unfold fm_pr
      rw [fm_bf.mpr e, hX.1 j hj, hX.1 k hk]
      rfl
    refine fm_bal ?_
    rw [← e2]
    cases e3 : fm_pr s b j k
    · rw [e3] at Q
      exact br_t rfl Q
    · rw [e3] at Q
      exact br_f (by decide) Q
theorem fm_l146 {j N : Nat} (hX : fm_X code ways s b L) (hF : fm_F (fm_pt code) L O (m, r, rays, mcn, cur, a1, a2, a3, a4, a5, a6, a7, a8)) (hj : j < 4)
    (H : J55 (nI (N + fm_ct s b j 4)) (nI (j + 1)) m r rays mcn cur a1 a2 a3 a4 a5 a6 a7 a8) :
    ∃ n, wL_lawOf_146 post mc ms J55 code ways (nI j) (fm_pt code j) kc ks n (nI N) (fm_bI (Nat.beq (s j) 0)) 0 m r rays mcn cur a1 a2 a3 a4 a5 a6 a7 a8 := by
  refine pk_loop (σ := Unit) (fun n k _ => wL_lawOf_146 post mc ms J55 code ways (nI j) (fm_pt code j) kc ks n (nI (N + fm_ct s b j k)) (fm_bI (fm_fw s b j k)) (nI k) m r rays mcn cur a1 a2 a3 a4 a5 a6 a7 a8) (fun _ _ => True) 4 0 () (by omega) trivial ?_ ?_
  · intro n _ _
    refine pk_le 4 4 (fun _ => ?_) (fun z => absurd z (by omega))
    have C := (hX.2.2.2 j hj).2.2.1
    refine fm_car hF hj (fun y => ?_) (fun y => ?_)
    · rw [C.mp y]
      exact br_f (by decide) (br_t rfl (nm_r (nI_1 j) H))
    · have e : fm_fw s b j 4 = false := by
        cases e : fm_fw s b j 4
        · rfl
        · obtain ⟨x, hx, hn⟩ := C.mpr e
          exact absurd (y x hx) hn
      rw [e]
      exact br_t rfl (br_t rfl (nm_r (nI_1 j) H))
  · intro n k _ hk _ hw
    have t := hw () trivial
    have bj := hX.2.1 j hj
    have bk := hX.2.1 k hk
    refine pk_le 4 k (fun z => absurd z (by omega)) (fun _ => ⟨by decide, ?_⟩)
    have Q := fm_l183 (post := post) (mc := mc) (ms := ms) (kc := kc) (ks := ks) (J55 := J55) (x7 := fm_bI (fm_fw s b j k)) (N := N + fm_ct s b j k) (J146 := wL_lawOf_146 post mc ms J55 code ways (nI j) (fm_pt code j) kc ks n) hX hF hj hk (fm_l353 hX hj hk (by
      rw [Nat.add_assoc]
      exact t))
    refine pk_eq (b j) 0 (fun e1 => pk_eq (b k) 0 (fun e2 => ?_) (fun e2 => ?_) bk.2) (fun e1 => ?_) bj.2
    · rw [fm_bt.mpr e1, fm_bt.mpr e2] at Q
      exact Q
    · rw [fm_bf.mpr e2, Bool.and_false] at Q
      exact Q
    · rw [fm_bf.mpr e1, Bool.false_and] at Q
      exact Q
end
end
section
section
variable {post : Int32 → St0 → Prop} {mc ms kc ks : Nat} {m r rays mcn cur : Int32} {a1 a2 a3 a4 a5 a6 a7 a8 : Nat → Int32} {code ways : Int32} {s b : Nat → Nat} {L O : List Nat}
theorem fm_l55 (hX : fm_X code ways s b L) (hR : fm_Rf (fm_pt code) L (m, r, rays, mcn, cur, a1, a2, a3, a4, a5, a6, a7, a8)) (H : post 1 ()) : ∃ n, wL_lawOf_55 post mc ms code ways kc ks n 0 0 m r rays mcn cur a1 a2 a3 a4 a5 a6 a7 a8 := by
  refine pk_loop (fun n j (u : St2) => wL_lawOf_55 post mc ms code ways kc ks n (nI (fm_n s b j)) (nI j) u.1 u.2.1 u.2.2.1 u.2.2.2.1 u.2.2.2.2.1 u.2.2.2.2.2.1 u.2.2.2.2.2.2.1 u.2.2.2.2.2.2.2.1 u.2.2.2.2.2.2.2.2.1 u.2.2.2.2.2.2.2.2.2.1 u.2.2.2.2.2.2.2.2.2.2.1 u.2.2.2.2.2.2.2.2.2.2.2.1 u.2.2.2.2.2.2.2.2.2.2.2.2) (fun _ u => fm_Rf (fm_pt code) L u) 4 0 (m, r, rays, mcn, cur, a1, a2, a3, a4, a5, a6, a7, a8) (by omega) hR ?_ ?_
  · intro n u hu
    obtain ⟨m, r, rays, mcn, cur, a1, a2, a3, a4, a5, a6, a7, a8⟩ := u
    refine pk_le 4 4 (fun _ => fm_mod hu (fun u => ?_)) (fun z => absurd z (by omega))
    obtain ⟨m, r, rays, mcn, cur, a1, a2, a3, a4, a5, a6, a7, a8⟩ := u
    exact br_t (by rw [hX.2.2.1]) H
  · intro n j u hj hu hw
    obtain ⟨m, r, rays, mcn, cur, a1, a2, a3, a4, a5, a6, a7, a8⟩ := u
    have hlt : 2 ^ j < 2 ^ 8 := Nat.pow_lt_pow_right (by decide) (by omega)
    refine pk_le 4 j (fun z => absurd z (by omega)) (fun _ => ⟨by decide, fm_fin hlt (fm_bit j hj).1 hu (fun O u x hF hfd => ?_)⟩)
    obtain ⟨m, r, rays, mcn, cur, a1, a2, a3, a4, a5, a6, a7, a8⟩ := u
    have t := hw (m, r, rays, mcn, cur, a1, a2, a3, a4, a5, a6, a7, a8) (fm_rf2 hF)
    have FA := hX.2.2.2 j hj
    have hs := hX.1 j hj
    by_cases e : s j = 0
    · have ec : fm_pt code j = 0 := by
        rw [hs] at e
        exact fm_sc0.mp e
      have tn : fm_n s b (j + 1) = fm_n s b j + 1 + fm_ct s b j 4 := by
        show fm_n s b j + (bif Nat.beq (s j) 0 then 1 else 0) + fm_ct s b j 4 = _
        rw [e]
        rfl
      rcases hfd with ⟨i, hi1, hi2, rfl⟩ | ⟨rfl, hn⟩
      · have em := FA.2.1 _ ((fm_inK hF).1 i hi1) hi2
        have ev := (fm_row hF hi1).1 (by rw [em]; exact (fm_uv j hj).1) j (by omega)
        rw [em, ((fm_uv j hj).2.2 j (by omega)).1, if_pos rfl] at ev
        have hOl : O.length < 300 := by
          obtain ⟨m, b1, b2, b3, b4, b5, b6, b7, b8, _, hM, hV, h7, hO, h8⟩ := hF
          have := fm_Orl hO
          have := hM.1
          omega
        have Q := fm_l146 (post := post) (mc := mc) (ms := ms) (kc := kc) (ks := ks) (N := fm_n s b j + 1) (J55 := wL_lawOf_55 post mc ms code ways kc ks n) hX hF hj (by
          rw [← tn]
          exact t)
        rw [e] at Q
        exact br_f (nI_pos (by omega)) (br_t ec (br_t rfl (br_t ec (nm_r (nI_1 _) (br_t ec (fm_flu hF hi1 hj (br_t ev (br_t ec Q))))))))
      · obtain ⟨x, hx1, hx2⟩ := FA.1.mpr e
        obtain ⟨i, hi1, hi2⟩ := (fm_inK hF).2 x hx1
        exact absurd (by rw [hi2]; exact hx2) (hn i hi1)
    · have ec : ¬ fm_pt code j = 0 := by
        rw [hs] at e
        exact fun z => e (fm_sc0.mpr z)
      have tn : fm_n s b (j + 1) = fm_n s b j + fm_ct s b j 4 := by
        show fm_n s b j + (bif Nat.beq (s j) 0 then 1 else 0) + fm_ct s b j 4 = _
        rw [fm_bf.mpr e]
        rfl
      rcases hfd with ⟨i, hi1, hi2, rfl⟩ | ⟨rfl, hn⟩
      · exact absurd (FA.1.mp ⟨_, (fm_inK hF).1 i hi1, hi2⟩) e
      · have Q := fm_l146 (post := post) (mc := mc) (ms := ms) (kc := kc) (ks := ks) (N := fm_n s b j) (J55 := wL_lawOf_55 post mc ms code ways kc ks n) hX hF hj (by
          rw [← tn]
          exact t)
        rw [fm_bf.mpr e] at Q
        exact br_t (by decide) (br_f ec (br_t rfl (br_f ec (br_f ec (br_f ec Q)))))
theorem fm_l12 (hb : ∀ j, j < 4 → b j < 2 ∧ (ways >>> (nI j &&& 31)) &&& 1 = nI (b j))
    (H : ∀ e1 e2, (∀ j, j < 4 → e1 j = fm_pt code j) → (∀ j, j < 4 → e2 j = nI (b j)) → ∃ n, wL_lawOf_55 post mc ms code ways kc ks n 0 0 1 4 rays mcn 0 e1 e2 a3 a4 a5 a6 a7 a8) :
    ∃ n, wL_lawOf_12 post mc ms code ways kc ks n 0 1 4 rays mcn 0 a1 a2 a3 a4 a5 a6 a7 a8 := by
  refine pk_loop (fun n i (u : (Nat → Int32) × (Nat → Int32)) => wL_lawOf_12 post mc ms code ways kc ks n (nI i) 1 4 rays mcn 0 u.1 u.2 a3 a4 a5 a6 a7 a8) (fun i u => (∀ j, j < i → u.1 j = fm_pt code j) ∧ ∀ j, j < i → u.2 j = (fun j => nI (b j)) j) 4 0 (a1, a2) (by omega) ⟨fun j hj => absurd hj (by omega), fun j hj => absurd hj (by omega)⟩
    (fun n u h => pk_le 4 4 (fun _ => H u.1 u.2 h.1 h.2) (fun z => absurd z (by omega))) ?_
  intro n i u hi h hw
  obtain ⟨u1, u2⟩ := u
  obtain ⟨t, ht, ec⟩ := fm_ptC code i hi
  have hr := fm_tr t ht
  rw [← ec] at hr
  exact pk_le 4 i (fun z => absurd z (by omega)) (fun _ => ⟨by decide, fm_set hi hr.1 hr.2 (fm_two hi (hb i hi).1 (hb i hi).2 (fun z => nm_r (nI_1 i) (hw (upd u1 i (fm_pt code i), upd u2 i (nI (b i))) ⟨fm_fl0 rfl h.1 rfl, fm_fl0 rfl h.2 rfl⟩)))⟩)
end
theorem fm_law (code ways : Int32) {post : Int32 → St0 → Prop} (H : post 1 ()) : wpL_lawOf post 9 3661 () code ways := by
  have hc := fm_ptC code
  have hw := fun j => fm_wbb ways j
  have hb : ∀ j, j < 4 → fm_f (fm_wb ways 0) (fm_wb ways 1) (fm_wb ways 2) (fm_wb ways 3) j < 2 ∧ (ways >>> (nI j &&& 31)) &&& 1 = nI (fm_f (fm_wb ways 0) (fm_wb ways 1) (fm_wb ways 2) (fm_wb ways 3) j) := by
    intro j hj
    rw [fm_f4 (f := fm_wb ways) hj]
    exact hw j
  have hX : fm_X code ways (fm_f (fm_sc (fm_pt code 0)) (fm_sc (fm_pt code 1)) (fm_sc (fm_pt code 2)) (fm_sc (fm_pt code 3))) (fm_f (fm_wb ways 0) (fm_wb ways 1) (fm_wb ways 2) (fm_wb ways 3))
      (fm_L (fm_g (fm_f (fm_sc (fm_pt code 0)) (fm_sc (fm_pt code 1)) (fm_sc (fm_pt code 2)) (fm_sc (fm_pt code 3)))) (fm_S (fm_f (fm_wb ways 0) (fm_wb ways 1) (fm_wb ways 2) (fm_wb ways 3)) 4)) :=
    ⟨fun j hj => fm_f4 (f := fun j => fm_sc (fm_pt code j)) hj, hb, fm_fac (fm_all (fm_scl _) (fm_scl _) (fm_scl _) (fm_scl _) (hw 0).1 (hw 1).1 (hw 2).1 (hw 3).1)⟩
  refine ⟨by omega, by omega, 8, 3648, by omega, by omega, fm_init (fun a h3 => fm_l12 hb (fun e1 e2 h1 h2 => fm_l55 hX (fm_ref hc (fun x hx => ?_) (fun j hj => (hb j hj).1) (fm_sok (hw 0).1 (hw 1).1 (hw 2).1 (hw 3).1) h1 h2 (fun j hj => h3 j (by omega))) H))⟩
  exact fm_gs hc hx
theorem i_vc (xs : Nat → Int32) (L : Nat) (hL : L ≤ 2) : wpL_law (fun r => r = 1) L xs := by
  have Q : ∀ code ways : Int32, ∃ mc ms : Nat, 0 + mc ≤ 1730 ∧ 0 + ms ≤ 27680 ∧ wpL_lawOf (fun r _ => r = 1) mc ms () code ways := fun code ways => ⟨9, 3661, by omega, by omega, fm_law code ways rfl⟩
  exact pk_le L 0 (fun _ => pk_le L 1 (fun _ => Q _ _) (fun z => ⟨pk_in 1 L z, Q _ _⟩)) (fun z => ⟨pk_in 0 L z, pk_le L 1 (fun _ => Q _ _) (fun z => ⟨pk_in 1 L z, Q _ _⟩)⟩)
end
