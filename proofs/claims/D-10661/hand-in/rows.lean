section
/-- the anchors hold the issuer of certificate 0 -/
def tp_A (a1 a2 a10 : Nat → Int32) : Prop := a10 0 = 10 * a1 0 + a2 0 ∨ a10 1 = 10 * a1 0 + a2 0 ∨ a10 2 = 10 * a1 0 + a2 0
/-- certificate 0 is good at a time, one left out -/
def tp_G (a5 a6 a8 a9 : Nat → Int32) (t w : Int32) : Prop := ¬ 0 = w ∧ a9 0 = 0 ∧ ¬ t < a5 0 ∧ ¬ a6 0 < t ∧ ¬ a8 0 ≤ t
/-- certificate 0 ends a path behind an anchor -/
def tp_E (a1 a2 a5 a6 a7 a8 a9 a10 : Nat → Int32) (t w : Int32) : Prop := tp_G a5 a6 a8 a9 t w ∧ tp_A a1 a2 a10 ∧ ¬ 15 &&& a7 4 = 0
/-- its subject's name is one of the eight -/
def tp_N (a3 : Nat → Int32) : Prop := ((255 : Int32) >>> (a3 0 &&& 31)) &&& 1 = 1
/-- what a search leaves: no state, or one of certificate 0 -/
def tp_F (E : Prop) (st : Int32) (a11 : Nat → Int32) : Prop := st = 0 ∨ (st = 1 ∧ a11 0 = 0 ∧ E)
/-- an answer of 1 or 0 -/
def tp_V (E : Prop) (r : Int32) : Prop := (E ∧ r = 1) ∨ (¬ E ∧ r = 0)
/-- a time -/
def tp_T (t : Int32) : Prop := ¬ t < 0 ∧ ¬ 100 < t
theorem tp_in {x : Int32} {n : Nat} (h : 0 ≤ x.toInt ∧ x.toInt < n) : vp_in x n := vp_in_iff.mpr h
theorem tp_not (x : Int32) : x ^^^ (-1) = ~~~x := Int32.xor_neg_one
theorem tp_b1 (x y z : Int32) : ((x &&& y) &&& z) &&& (x ^^^ (-1)) = 0 := by
  rw [tp_not, Int32.and_comm (x &&& y) z, Int32.and_comm x y, Int32.and_assoc, Int32.and_assoc, Int32.and_not_self, Int32.and_zero, Int32.and_zero]
theorem tp_b2 (x y : Int32) : (x &&& y) &&& (x ^^^ (-1)) = 0 := by
  have h := tp_b1 x y (-1)
  rw [Int32.and_neg_one] at h
  exact h
theorem tp_b3 (x y : Int32) : y ||| (x &&& y) = y := by
  apply Int32.toBitVec_inj.mp
  apply BitVec.eq_of_getLsbD_eq
  intro i hi
  simp only [Int32.toBitVec_or, Int32.toBitVec_and, BitVec.getLsbD_or, BitVec.getLsbD_and]
  cases x.toBitVec.getLsbD i <;> cases y.toBitVec.getLsbD i <;> rfl
theorem tp_b4 (x : Int32) : x ||| 0 = x := Int32.or_zero
section
variable {cn st ro ti wo pl : Int32} {a1 a2 a3 a4 a5 a6 a7 a8 a9 a10 a11 a12 a13 a14 a15 a16 a17 : Nat → Int32}
variable {post : Int32 → Prop} {t p : Int32}
theorem tp_time (h : tp_T t) (H : post 1) : wpX_isTime post () t := br_f h.1 (br_f h.2 H)
theorem tp_timeN (h : ¬ tp_T t) (H : post 0) : wpX_isTime post () t :=
  br_c (fun _ => H) (fun a => br_c (fun _ => H) (fun b => absurd ⟨a, b⟩ h))
theorem tp_cert1 (H : post 1) : wpX_isCertificate post (1, st, ro, ti, wo, pl, a1, a2, a3, a4, a5, a6, a7, a8, a9, a10, a11, a12, a13, a14, a15, a16, a17) 0 := br_f (by decide) (br_f (by decide) H)
theorem tp_certx (h : cn ≤ p) (H : post 0) : wpX_isCertificate post (cn, st, ro, ti, wo, pl, a1, a2, a3, a4, a5, a6, a7, a8, a9, a10, a11, a12, a13, a14, a15, a16, a17) p := br_c (fun _ => H) (fun _ => br_t h H)
theorem tp_cert0 (H : post 0) : wpX_isCertificate post (0, st, ro, ti, wo, pl, a1, a2, a3, a4, a5, a6, a7, a8, a9, a10, a11, a12, a13, a14, a15, a16, a17) p :=
  br_c (fun _ => H) (fun h => br_c (fun _ => H) (fun h2 => absurd (Int32.not_lt.mp h) h2))
theorem tp_ask1 (h : tp_T t) (H : post 1) : wpX_isAsked post (1, st, ro, ti, wo, pl, a1, a2, a3, a4, a5, a6, a7, a8, a9, a10, a11, a12, a13, a14, a15, a16, a17) 0 t := by
  unfold wpX_isAsked
  exact tp_cert1 (br_f (by decide) (tp_time h (br_f (by decide) H)))
theorem tp_ask1N (h : ¬ tp_T t) (H : post 0) : wpX_isAsked post (1, st, ro, ti, wo, pl, a1, a2, a3, a4, a5, a6, a7, a8, a9, a10, a11, a12, a13, a14, a15, a16, a17) 0 t := by
  unfold wpX_isAsked
  exact tp_cert1 (br_f (by decide) (tp_timeN h (br_t rfl H)))
theorem tp_ask0 (H : post 0) : wpX_isAsked post (0, st, ro, ti, wo, pl, a1, a2, a3, a4, a5, a6, a7, a8, a9, a10, a11, a12, a13, a14, a15, a16, a17) p t := by
  unfold wpX_isAsked
  exact tp_cert0 (br_t rfl H)
theorem tp_askx (h : cn ≤ p) (H : post 0) : wpX_isAsked post (cn, st, ro, ti, wo, pl, a1, a2, a3, a4, a5, a6, a7, a8, a9, a10, a11, a12, a13, a14, a15, a16, a17) p t := by
  unfold wpX_isAsked
  exact tp_certx h (br_t rfl H)
theorem tp_self (h1 : post 1) (h0 : ¬ a1 0 = a3 0 → post 0) : wpX_isSelfIssued post (cn, st, ro, ti, wo, pl, a1, a2, a3, a4, a5, a6, a7, a8, a9, a10, a11, a12, a13, a14, a15, a16, a17) 0 :=
  ⟨tp_in (by decide), tp_in (by decide), br_c (fun _ => h1) (fun e => h0 e)⟩
theorem tp_good (h1 : tp_G a5 a6 a8 a9 ti wo → post 1) (h0 : ¬ tp_G a5 a6 a8 a9 ti wo → post 0) : wpX_isGood post (cn, st, ro, ti, wo, pl, a1, a2, a3, a4, a5, a6, a7, a8, a9, a10, a11, a12, a13, a14, a15, a16, a17) 0 :=
  br_c (fun e => h0 (fun g => g.1 e)) (fun e => ⟨tp_in (by decide), br_c
    (fun e2 => ⟨tp_in (by decide), br_c (fun e3 => h0 (fun g => g.2.2.1 e3)) (fun e3 => ⟨tp_in (by decide), br_c (fun e4 => h0 (fun g => g.2.2.2.1 e4))
      (fun e4 => ⟨tp_in (by decide), br_c (fun e5 => h0 (fun g => g.2.2.2.2 e5)) (fun e5 => h1 ⟨e, e2, e3, e4, e5⟩)⟩)⟩)⟩)
    (fun e2 => h0 (fun g => e2 g.2.1))⟩)
theorem tp_anch (h1 : tp_A a1 a2 a10 → post 1) (h0 : ¬ tp_A a1 a2 a10 → post 0) : wpX_isAnchored post (cn, st, ro, ti, wo, pl, a1, a2, a3, a4, a5, a6, a7, a8, a9, a10, a11, a12, a13, a14, a15, a16, a17) 0 :=
  ⟨tp_in (by decide), tp_in (by decide), nm_e (br_c (fun e => h1 (Or.inl e)) (fun n1 => br_c (fun e => h1 (Or.inr (Or.inl e))) (fun n2 => br_c (fun e => h1 (Or.inr (Or.inr e)))
    (fun n3 => h0 (fun g => g.elim n1 (fun g => g.elim n2 n3))))))⟩
theorem tp_signA (h1 : tp_A a1 a2 a10 → post 1) (h0 : ¬ tp_A a1 a2 a10 → post 0) : wpX_isSigned post (cn, st, ro, ti, wo, pl, a1, a2, a3, a4, a5, a6, a7, a8, a9, a10, a11, a12, a13, a14, a15, a16, a17) 0 (-1) := by
  unfold wpX_isSigned
  exact br_f (by decide) (tp_anch (fun a => ⟨rfl, h1 a⟩) (fun a => ⟨rfl, h0 a⟩))
theorem tp_signB (h11 : a11 0 = 0) (h1 : a1 0 = a3 0 → post 1) (h0 : post 0) : wpX_isSigned post (cn, st, ro, ti, wo, pl, a1, a2, a3, a4, a5, a6, a7, a8, a9, a10, a11, a12, a13, a14, a15, a16, a17) 0 0 :=
  br_t (by decide) ⟨tp_in (by decide), nm_r h11 ⟨tp_in (by decide), tp_in (by decide), br_c (fun e => ⟨tp_in (by decide), tp_in (by decide), br_c (fun _ => h1 e) (fun _ => h0)⟩) (fun _ => h0)⟩⟩
theorem tp_openA (hN : tp_N a3) (H : post 1) : wpX_isOpen post (cn, st, ro, ti, wo, pl, a1, a2, a3, a4, a5, a6, a7, a8, a9, a10, a11, a12, a13, a14, a15, a16, a17) 0 (-1) := by
  unfold wpX_isOpen
  exact br_f (by decide) ⟨tp_in (by decide), br_t hN H⟩
theorem tp_openB (h1 : post 1) (h0 : post 0) : wpX_isOpen post (cn, st, ro, ti, wo, pl, a1, a2, a3, a4, a5, a6, a7, a8, a9, a10, a11, a12, a13, a14, a15, a16, a17) 0 0 := by
  unfold wpX_isOpen
  exact br_t (by decide) ⟨tp_in (by decide), tp_in (by decide), br_c (fun _ => h1) (fun _ => h0)⟩
theorem tp_endsA (hN : tp_N a3) (h1 : tp_E a1 a2 a5 a6 a7 a8 a9 a10 ti wo → post 1) (h0 : ¬ tp_E a1 a2 a5 a6 a7 a8 a9 a10 ti wo → post 0) : wpX_endsWell post (cn, st, ro, ti, wo, pl, a1, a2, a3, a4, a5, a6, a7, a8, a9, a10, a11, a12, a13, a14, a15, a16, a17) 0 (-1) := by
  unfold wpX_endsWell
  exact tp_good (fun g => br_f (by decide) (tp_signA (fun a => br_f (by decide) (tp_openA hN (br_f (by decide) (br_f (by decide) ⟨tp_in (by decide),
    br_c (fun e => h0 (fun E => E.2.2 e)) (fun e => h1 ⟨g, a, e⟩)⟩)))) (fun na => br_t rfl (h0 (fun E => na E.2.1))))) (fun ng => br_t rfl (h0 (fun E => ng E.1)))
theorem tp_endsB (h11 : a11 0 = 0) (h1 : post 1) (h0 : post 0) : wpX_endsWell post (cn, st, ro, ti, wo, pl, a1, a2, a3, a4, a5, a6, a7, a8, a9, a10, a11, a12, a13, a14, a15, a16, a17) 0 0 := by
  unfold wpX_endsWell
  exact tp_good (fun g => br_f (by decide) (tp_signB h11 (fun a => br_f (by decide) (tp_openB (br_f (by decide) (br_t (by decide) ⟨tp_in (by decide), tp_in (by decide),
    br_c (fun _ => h0) (fun _ => h1)⟩)) (br_t rfl h0))) (br_t rfl h0))) (fun ng => br_t rfl h0)
end
end
section
section
variable {cn st ro ti wo pl : Int32} {a1 a2 a3 a4 a5 a6 a7 a8 a9 a10 a11 a12 a13 a14 a15 a16 a17 : Nat → Int32}
variable {post : St2 → Prop}
/-- the state of certificate 0 behind an anchor is made -/
theorem tp_207a {x5 z0 : Int32} (H : ∀ a13 a14 a15 : Nat → Int32, post (cn, 1, ro, ti, wo, pl, a1, a2, a3, a4, a5, a6, a7, a8, a9, a10, a11, a12, a13, a14, a15, a16, a17)) : wX_extend_207 post (-1) x5 0 z0 0 cn 0 ro ti wo pl a1 a2 a3 a4 a5 a6 a7 a8 a9 a10 a11 a12 a13 a14 a15 a16 a17 :=
  ⟨tp_in (by decide), fun a13 _ => ⟨tp_in (by decide), fun a14 _ => ⟨tp_in (by decide), fun a15 _ => ⟨0 + 1, br_t (by decide) (br_t rfl (nm_r (e' := 1) (by decide) (H a13 a14 a15)))⟩⟩⟩⟩
theorem tp_110a {x5 : Int32} (H : ∀ a11 a12 a13 a14 a15 : Nat → Int32, a11 0 = 0 → post (cn, 1, ro, ti, wo, pl, a1, a2, a3, a4, a5, a6, a7, a8, a9, a10, a11, a12, a13, a14, a15, a16, a17)) : wX_extend_110 post 0 (-1) x5 4 cn 0 ro ti wo pl a1 a2 a3 a4 a5 a6 a7 a8 a9 a10 a11 a12 a13 a14 a15 a16 a17 := by
  unfold wX_extend_110
  exact ⟨tp_in (by decide), fun x7 _ => br_f (by decide) ⟨tp_in (by decide), tp_in (by decide), fun x8 _ => br_t (by decide) ⟨tp_in (by decide), fun b11 e => ⟨tp_in (by decide), fun b12 _ =>
    br_c (fun _ => tp_207a (fun b13 b14 b15 => H b11 b12 b13 b14 b15 (by rw [e]; exact pk_us))) (fun _ => tp_207a (fun b13 b14 b15 => H b11 b12 b13 b14 b15 (by rw [e]; exact pk_us)))⟩⟩⟩⟩
theorem tp_93a {x4 x5 : Int32} (H : ∀ a11 a12 a13 a14 a15 : Nat → Int32, a11 0 = 0 → post (cn, 1, ro, ti, wo, pl, a1, a2, a3, a4, a5, a6, a7, a8, a9, a10, a11, a12, a13, a14, a15, a16, a17)) : wX_extend_93 post 0 (-1) 4 x4 x5 cn 0 ro ti wo pl a1 a2 a3 a4 a5 a6 a7 a8 a9 a10 a11 a12 a13 a14 a15 a16 a17 :=
  br_c (fun _ => br_t rfl (tp_110a H)) (fun _ => tp_110a H)
theorem tp_extA (hN : tp_N a3) (H0 : post (cn, 0, ro, ti, wo, pl, a1, a2, a3, a4, a5, a6, a7, a8, a9, a10, a11, a12, a13, a14, a15, a16, a17)) (H1 : tp_E a1 a2 a5 a6 a7 a8 a9 a10 ti wo → ∀ a11 a12 a13 a14 a15 : Nat → Int32, a11 0 = 0 → post (cn, 1, ro, ti, wo, pl, a1, a2, a3, a4, a5, a6, a7, a8, a9, a10, a11, a12, a13, a14, a15, a16, a17)) : wpX_extend post (cn, 0, ro, ti, wo, pl, a1, a2, a3, a4, a5, a6, a7, a8, a9, a10, a11, a12, a13, a14, a15, a16, a17) 0 (-1) := by
  unfold wpX_extend
  refine br_f (by decide) ?_
  unfold wX_extend_14
  have go : ∀ x5 : Int32, x5 = 15 &&& a7 4 → ∀ r3 : Int32, ¬ a7 0 = 0 → tp_G a5 a6 a8 a9 ti wo → tp_A a1 a2 a10 → ¬ x5 = 0 → wX_extend_93 post 0 (-1) 4 r3 x5 cn 0 ro ti wo pl a1 a2 a3 a4 a5 a6 a7 a8 a9 a10 a11 a12 a13 a14 a15 a16 a17 :=
    fun x5 e5 r3 _ g a h => tp_93a (H1 ⟨g, a, by rw [← e5]; exact h⟩)
  refine tp_self ?_ (fun _ => ?_)
  · exact br_f (by decide) ⟨tp_in (by decide), fun x5 e5 => ⟨tp_in (by decide), br_c (fun _ => H0) (fun h7 => tp_good (fun g => br_f (by decide) (tp_signA (fun a => br_f (by decide)
      (br_c (fun _ => H0) (fun h5 => br_f (by decide) (go x5 e5 1 h7 g a h5)))) (fun _ => br_t rfl H0))) (fun _ => br_t rfl H0))⟩⟩
  · exact br_f (by decide) ⟨tp_in (by decide), fun x5 e5 => ⟨tp_in (by decide), br_c (fun _ => H0) (fun h7 => tp_good (fun g => br_f (by decide) (tp_signA (fun a => br_f (by decide)
      (br_c (fun _ => H0) (fun h5 => br_t rfl (br_f (by decide) (tp_openA hN (br_f (by decide) (go x5 e5 0 h7 g a h5))))))) (fun _ => br_t rfl H0))) (fun _ => br_t rfl H0))⟩⟩
/-- a second state of certificate 0 is beaten by the first -/
theorem tp_207b {x5 z0 : Int32} (h11 : a11 0 = 0) (h11' : a11 1 = 0) (h12 : a12 1 &&& (a12 0 ^^^ (-1)) = 0) (h14 : x5 &&& (a14 0 ^^^ (-1)) = 0) (hz : ¬ a13 0 < z0)
    (H : ∀ a13 a14 a15 : Nat → Int32, post (cn, 1, ro, ti, wo, pl, a1, a2, a3, a4, a5, a6, a7, a8, a9, a10, a11, a12, a13, a14, a15, a16, a17)) : wX_extend_207 post 0 x5 1 z0 1 cn 1 ro ti wo pl a1 a2 a3 a4 a5 a6 a7 a8 a9 a10 a11 a12 a13 a14 a15 a16 a17 :=
  ⟨tp_in (by decide), nm_e ⟨tp_in (by decide), nm_e ⟨tp_in (by decide), nm_e ⟨0 + 1, br_f (by decide) ⟨tp_in (by decide), tp_in (by decide), br_t h12
    ⟨tp_in (by decide), tp_in (by decide), br_t h14 ⟨tp_in (by decide), tp_in (by decide), br_f hz ⟨tp_in (by decide), tp_in (by decide), br_t (h11.trans h11'.symm) (br_f (by decide) (br_f (by decide) (H _ _ _)))⟩⟩⟩⟩⟩⟩⟩⟩
theorem tp_110b {x5 : Int32} (h11 : a11 0 = 0) (h14 : x5 &&& (a14 0 ^^^ (-1)) = 0) (H : ∀ a11 a12 a13 a14 a15 : Nat → Int32, a11 0 = 0 → post (cn, 1, ro, ti, wo, pl, a1, a2, a3, a4, a5, a6, a7, a8, a9, a10, a11, a12, a13, a14, a15, a16, a17)) : wX_extend_110 post 0 0 x5 (a13 0) cn 1 ro ti wo pl a1 a2 a3 a4 a5 a6 a7 a8 a9 a10 a11 a12 a13 a14 a15 a16 a17 := by
  unfold wX_extend_110
  have h0 : upd a11 1 0 0 = 0 := h11
  have h1 : upd a11 1 0 1 = 0 := pk_us
  exact ⟨tp_in (by decide), fun x7 _ => br_t (by decide) ⟨tp_in (by decide), tp_in (by decide), tp_in (by decide), nm_e (br_t (by decide) ⟨tp_in (by decide), nm_e ⟨tp_in (by decide), nm_e
    (br_c (fun _ => tp_207b h0 h1 (tp_b1 _ _ _) h14 Int32.lt_irrefl (fun b13 b14 b15 => H _ _ b13 b14 b15 h0))
      (fun h => tp_207b h0 h1 (tp_b1 _ _ _) h14 (fun h2 => h (Int32.le_of_lt h2)) (fun b13 b14 b15 => H _ _ b13 b14 b15 h0)))⟩⟩)⟩⟩
theorem tp_extB (h11 : a11 0 = 0) (H : ∀ a11 a12 a13 a14 a15 : Nat → Int32, a11 0 = 0 → post (cn, 1, ro, ti, wo, pl, a1, a2, a3, a4, a5, a6, a7, a8, a9, a10, a11, a12, a13, a14, a15, a16, a17)) : wpX_extend post (cn, 1, ro, ti, wo, pl, a1, a2, a3, a4, a5, a6, a7, a8, a9, a10, a11, a12, a13, a14, a15, a16, a17) 0 0 := by
  unfold wpX_extend
  refine br_t (by decide) ⟨tp_in (by decide), ?_⟩
  unfold wX_extend_14
  have H0 := H a11 a12 a13 a14 a15 h11
  refine tp_self ?_ (fun hn => ?_)
  · exact br_t (by decide) ⟨tp_in (by decide), tp_in (by decide), nm_e ⟨tp_in (by decide), br_c (fun _ => H0) (fun h7 => tp_good (fun g => br_f (by decide) (tp_signB h11 (fun a => br_f (by decide)
      (br_c (fun _ => H0) (fun h5 => br_f (by decide) (br_f (by decide) (tp_110b h11 (tp_b2 _ _) H))))) (br_t rfl H0))) (fun _ => br_t rfl H0))⟩⟩
  · exact br_t (by decide) ⟨tp_in (by decide), tp_in (by decide), nm_e ⟨tp_in (by decide), br_c (fun _ => H0) (fun h7 => tp_good (fun g => br_f (by decide) (tp_signB h11 (fun a => absurd a hn)
      (br_t rfl H0))) (fun _ => br_t rfl H0))⟩⟩
/-- rounds that add nothing -/
theorem tp_61 (H : ∀ (ro : Int32) (a16 : Nat → Int32), post (cn, st, ro, ti, wo, pl, a1, a2, a3, a4, a5, a6, a7, a8, a9, a10, a11, a12, a13, a14, a15, a16, a17)) : ∀ d k : Nat, k + d = 4 → ∀ b16 : Nat → Int32, b16 k = st → b16 (k + 1) = st → wX_findStates_61 post (d + 1) (nI (k + 2)) cn st (nI (k + 1)) ti wo pl a1 a2 a3 a4 a5 a6 a7 a8 a9 a10 a11 a12 a13 a14 a15 b16 a17 := by
  intro d
  induction d with
  | zero =>
    intro k hk b16 _ _
    obtain rfl : k = 4 := by omega
    exact br_t (by decide) (H _ _)
  | succ d ih =>
    intro k hk b16 h0 h1
    refine br_f (nI_ge (b := 6) (by omega) (by decide)) ?_
    have e : nI (k + 1) - 1 = nI k := nI_pred k
    rw [e, nI_clamp (show k < 2 ^ 31 by omega), nI_clamp (show k + 1 < 2 ^ 31 by omega)]
    refine ⟨vp_in_nI (by omega) (by decide), nm_r h0 ⟨vp_in_nI (by omega) (by decide), nm_r h1 ⟨0 + 1, br_t ?_ (nm_r (nI_1 (k + 1)) ⟨vp_in_nI (by omega) (by decide), nm_e (nm_r (nI_1 (k + 2)) (ih (k + 1) (by omega) _ ?_ ?_))⟩)⟩⟩⟩
    · rw [Int32.sub_self, Int32.zero_mul]
      decide
    · rw [nI_clamp (show k + 1 + 1 < 2 ^ 31 by omega), pk_un (by omega)]
      exact h1
    · rw [nI_clamp (show k + 1 + 1 < 2 ^ 31 by omega), pk_us]
/-- the rounds behind the first, where it has made a state -/
theorem tp_61b (h11 : a11 0 = 0) (h0 : a16 0 = 0) (h1 : a16 1 = 1) (H : ∀ (ro : Int32) (a11 a12 a13 a14 a15 a16 : Nat → Int32), a11 0 = 0 → post (1, 1, ro, ti, wo, pl, a1, a2, a3, a4, a5, a6, a7, a8, a9, a10, a11, a12, a13, a14, a15, a16, a17)) : wX_findStates_61 post (4 + 1) 2 1 1 1 ti wo pl a1 a2 a3 a4 a5 a6 a7 a8 a9 a10 a11 a12 a13 a14 a15 a16 a17 := by
  have e1 : (0 : Int32) - 0 / 1 * 1 = 0 := by decide
  have e2 : (0 : Int32) + 0 / 1 = 0 := by decide
  refine br_f (by decide) ⟨tp_in (by decide), nm_r (e' := 0) h0 ⟨tp_in (by decide), nm_r (e' := 1) h1 ⟨1 + 1, br_f (by decide) ⟨by decide, by decide, ?_⟩⟩⟩⟩
  rw [e1, e2]
  refine tp_extB h11 (fun b11 b12 b13 b14 b15 hb => nm_e (br_t (by decide) (nm_r (e' := nI 2) (by decide) ⟨tp_in (by decide), nm_e (nm_r (e' := nI 3) (by decide) ?_)⟩)))
  exact tp_61 (fun ro b16 => H ro b11 b12 b13 b14 b15 b16 hb) 3 1 (by omega) _ h1 rfl
theorem tp_find0 {t w : Int32} (H : ∀ (ro : Int32) (a16 : Nat → Int32), post (0, 0, ro, t, w, pl, a1, a2, a3, a4, a5, a6, a7, a8, a9, a10, a11, a12, a13, a14, a15, a16, a17)) : wpX_findStates post (0, st, ro, ti, wo, pl, a1, a2, a3, a4, a5, a6, a7, a8, a9, a10, a11, a12, a13, a14, a15, a16, a17) t w := by
  unfold wpX_findStates
  refine nm_e ⟨0 + 1, br_t (by decide) (nm_e ⟨4 + 1, ?_⟩)⟩
  exact tp_61 H 4 0 (by omega) _ rfl rfl
theorem tp_find1 {t w : Int32} (hN : tp_N a3) (H : ∀ (st ro : Int32) (a11 a12 a13 a14 a15 a16 : Nat → Int32), tp_F (tp_E a1 a2 a5 a6 a7 a8 a9 a10 t w) st a11 → post (1, st, ro, t, w, pl, a1, a2, a3, a4, a5, a6, a7, a8, a9, a10, a11, a12, a13, a14, a15, a16, a17)) : wpX_findStates post (1, st, ro, ti, wo, pl, a1, a2, a3, a4, a5, a6, a7, a8, a9, a10, a11, a12, a13, a14, a15, a16, a17) t w := by
  unfold wpX_findStates
  refine nm_e ⟨1 + 1, br_f (by decide) (tp_extA hN ?_ (fun hE b11 b12 b13 b14 b15 hb => ?_))⟩
  · refine nm_e (br_t (by decide) (nm_e ⟨4 + 1, ?_⟩))
    exact tp_61 (fun ro b16 => H 0 ro _ _ _ _ _ b16 (Or.inl rfl)) 4 0 (by omega) _ rfl rfl
  · refine nm_e (br_t (by decide) (nm_e ⟨4 + 1, ?_⟩))
    exact tp_61b hb rfl rfl (fun ro b11 b12 b13 b14 b15 b16 hb => H 1 ro b11 b12 b13 b14 b15 b16 (Or.inr ⟨rfl, hb, hE⟩))
end
end
section
section
variable {cn st ro ti wo pl : Int32} {a1 a2 a3 a4 a5 a6 a7 a8 a9 a10 a11 a12 a13 a14 a15 a16 a17 : Nat → Int32}
variable {post : Int32 → Prop}
theorem tp_first (hN : tp_N a3) (hF : tp_F (tp_E a1 a2 a5 a6 a7 a8 a9 a10 ti wo) st a11) (h1 : tp_E a1 a2 a5 a6 a7 a8 a9 a10 ti wo → post (-1)) (h0 : ¬ tp_E a1 a2 a5 a6 a7 a8 a9 a10 ti wo → post (-2)) : wpX_firstFor post (cn, st, ro, ti, wo, pl, a1, a2, a3, a4, a5, a6, a7, a8, a9, a10, a11, a12, a13, a14, a15, a16, a17) 0 := by
  unfold wpX_firstFor
  refine tp_endsA hN (fun e => br_f (by decide) (h1 e)) (fun e => br_t rfl ⟨0 + 1, ?_⟩)
  rcases hF with hs | h
  · exact br_t (by rw [hs]; decide) (h0 e)
  · exact absurd h.2.2 e
theorem tp_pol (hN : tp_N a3) (hF : tp_F (tp_E a1 a2 a5 a6 a7 a8 a9 a10 ti wo) st a11) (h1 : tp_E a1 a2 a5 a6 a7 a8 a9 a10 ti wo → post (a7 4)) (h0 : ¬ tp_E a1 a2 a5 a6 a7 a8 a9 a10 ti wo → post 0) : wpX_policiesFor post (cn, st, ro, ti, wo, pl, a1, a2, a3, a4, a5, a6, a7, a8, a9, a10, a11, a12, a13, a14, a15, a16, a17) 0 := by
  unfold wpX_policiesFor
  refine tp_endsA hN (fun e => br_f (by decide) ⟨tp_in (by decide), nm_e ?_⟩) (fun e => br_t rfl ⟨0 + 1, ?_⟩)
  · rcases hF with hs | ⟨hs, h11, _⟩
    · exact ⟨0 + 1, br_t (by rw [hs]; decide) (h1 e)⟩
    · refine ⟨1 + 1, br_f (by rw [hs]; decide) (tp_endsB h11 (br_f (by decide) ⟨tp_in (by decide), tp_in (by decide), nm_r (e' := a7 4) (tp_b3 _ _) (nm_e ?_)⟩) (br_t rfl (nm_r (e' := a7 4) (tp_b4 _) (nm_e ?_))))⟩
      · exact br_t (by rw [hs]; decide) (h1 e)
      · exact br_t (by rw [hs]; decide) (h1 e)
  · rcases hF with hs | h
    · exact br_t (by rw [hs]; decide) (h0 e)
    · exact absurd h.2.2 e
theorem tp_set0 (H : post 0) : wpX_trustedSet post (0, st, ro, ti, wo, pl, a1, a2, a3, a4, a5, a6, a7, a8, a9, a10, a11, a12, a13, a14, a15, a16, a17) := ⟨0 + 1, br_t (by decide) H⟩
theorem tp_set1 (hN : tp_N a3) (hF : tp_F (tp_E a1 a2 a5 a6 a7 a8 a9 a10 ti wo) st a11) (h1 : tp_E a1 a2 a5 a6 a7 a8 a9 a10 ti wo → post 1) (h0 : ¬ tp_E a1 a2 a5 a6 a7 a8 a9 a10 ti wo → post 0) : wpX_trustedSet post (1, st, ro, ti, wo, pl, a1, a2, a3, a4, a5, a6, a7, a8, a9, a10, a11, a12, a13, a14, a15, a16, a17) := by
  refine ⟨1 + 1, br_f (by decide) (tp_first hN hF (fun e => br_f (by decide) (nm_r (e' := 1) (by decide) (nm_e (br_t (by decide) (h1 e))))) (fun e => br_t rfl (nm_r (e' := 0) (by decide) (nm_e (br_t (by decide) (h0 e))))))⟩
theorem tp_ones0 (H : post 0) : wpX_ones post () 0 :=
  pk_loop (σ := Int32) (fun n i s => wX_ones_4 post 0 n s (nI i)) (fun _ s => s = 0) 12 0 0 (by omega) rfl
    (fun n s hs => pk_le 12 12 (fun _ => by rw [hs]; exact H) (fun z => absurd z (by omega)))
    (fun n i s hi hs hw => pk_le 12 i (fun z => absurd z (by omega)) (fun _ => nm_e (nm_r (nI_1 i) (hw _ (by rw [hs, Int32.zero_shiftRight]; decide)))))
theorem tp_one : ∀ i, i < 12 → ((1 : Int32) >>> (nI i &&& 31)) &&& 1 = if i = 0 then 1 else 0 := by decide +kernel
theorem tp_ones1 (H : post 1) : wpX_ones post () 1 :=
  pk_loop (σ := Int32) (fun n i s => wX_ones_4 post 1 n s (nI i)) (fun i s => s = if i = 0 then 0 else 1) 12 0 0 (by omega) rfl
    (fun n s hs => pk_le 12 12 (fun _ => by rw [hs]; exact H) (fun z => absurd z (by omega)))
    (fun n i s hi hs hw => pk_le 12 i (fun z => absurd z (by omega)) (fun _ => nm_e (nm_r (nI_1 i) (hw _ (by rw [hs, tp_one i hi]; by_cases e : i = 0 <;> simp [e])))))
end
section
variable {cn st ro ti wo pl : Int32} {a1 a2 a3 a4 a5 a6 a7 a8 a9 a10 a11 a12 a13 a14 a15 a16 a17 : Nat → Int32}
variable {post : Int32 → St2 → Prop} {t p q r : Int32}
/-! before a certificate is made -/
theorem tp_trusted0 (H : post (-1) (0, st, ro, ti, wo, pl, a1, a2, a3, a4, a5, a6, a7, a8, a9, a10, a11, a12, a13, a14, a15, a16, a17)) : wpX_trusted post (0, st, ro, ti, wo, pl, a1, a2, a3, a4, a5, a6, a7, a8, a9, a10, a11, a12, a13, a14, a15, a16, a17) p t := by
  unfold wpX_trusted
  exact tp_ask0 (br_t rfl H)
theorem tp_trustedx (h : cn ≤ p) (H : post (-1) (cn, st, ro, ti, wo, pl, a1, a2, a3, a4, a5, a6, a7, a8, a9, a10, a11, a12, a13, a14, a15, a16, a17)) : wpX_trusted post (cn, st, ro, ti, wo, pl, a1, a2, a3, a4, a5, a6, a7, a8, a9, a10, a11, a12, a13, a14, a15, a16, a17) p t := by
  unfold wpX_trusted
  exact tp_askx h (br_t rfl H)
theorem tp_length0 (H : post (-1) (0, st, ro, ti, wo, pl, a1, a2, a3, a4, a5, a6, a7, a8, a9, a10, a11, a12, a13, a14, a15, a16, a17)) : wpX_length post (0, st, ro, ti, wo, pl, a1, a2, a3, a4, a5, a6, a7, a8, a9, a10, a11, a12, a13, a14, a15, a16, a17) p t := by
  unfold wpX_length
  exact tp_ask0 (br_t rfl H)
theorem tp_step0 (H : post (-1) (0, st, ro, ti, wo, pl, a1, a2, a3, a4, a5, a6, a7, a8, a9, a10, a11, a12, a13, a14, a15, a16, a17)) : wpX_step post (0, st, ro, ti, wo, pl, a1, a2, a3, a4, a5, a6, a7, a8, a9, a10, a11, a12, a13, a14, a15, a16, a17) p t q := by
  unfold wpX_step
  exact tp_ask0 (br_t rfl H)
theorem tp_policies0 (H : post (-1) (0, st, ro, ti, wo, pl, a1, a2, a3, a4, a5, a6, a7, a8, a9, a10, a11, a12, a13, a14, a15, a16, a17)) : wpX_policies post (0, st, ro, ti, wo, pl, a1, a2, a3, a4, a5, a6, a7, a8, a9, a10, a11, a12, a13, a14, a15, a16, a17) p t := by
  unfold wpX_policies
  exact tp_ask0 (br_t rfl H)
theorem tp_until0 (H : post (-1) (0, st, ro, ti, wo, pl, a1, a2, a3, a4, a5, a6, a7, a8, a9, a10, a11, a12, a13, a14, a15, a16, a17)) : wpX_until post (0, st, ro, ti, wo, pl, a1, a2, a3, a4, a5, a6, a7, a8, a9, a10, a11, a12, a13, a14, a15, a16, a17) p t := by
  unfold wpX_until
  exact tp_ask0 (br_t rfl H)
theorem tp_depending0 (H : post (-1) (0, st, ro, ti, wo, pl, a1, a2, a3, a4, a5, a6, a7, a8, a9, a10, a11, a12, a13, a14, a15, a16, a17)) : wpX_depending post (0, st, ro, ti, wo, pl, a1, a2, a3, a4, a5, a6, a7, a8, a9, a10, a11, a12, a13, a14, a15, a16, a17) p t := by
  unfold wpX_depending
  exact tp_ask0 (br_t rfl H)
theorem tp_narrow0 (H : post (-1) (0, st, ro, ti, wo, pl, a1, a2, a3, a4, a5, a6, a7, a8, a9, a10, a11, a12, a13, a14, a15, a16, a17)) : wpX_narrow post (0, st, ro, ti, wo, pl, a1, a2, a3, a4, a5, a6, a7, a8, a9, a10, a11, a12, a13, a14, a15, a16, a17) p t := by
  unfold wpX_narrow
  exact tp_ask0 (br_t rfl H)
theorem tp_times0 (H : post (-1) (0, st, ro, ti, wo, pl, a1, a2, a3, a4, a5, a6, a7, a8, a9, a10, a11, a12, a13, a14, a15, a16, a17)) : wpX_times post (0, st, ro, ti, wo, pl, a1, a2, a3, a4, a5, a6, a7, a8, a9, a10, a11, a12, a13, a14, a15, a16, a17) p t q := by
  unfold wpX_times
  exact tp_cert0 (br_t rfl H)
theorem tp_setx0 (H : post (-1) (0, st, ro, ti, wo, pl, a1, a2, a3, a4, a5, a6, a7, a8, a9, a10, a11, a12, a13, a14, a15, a16, a17)) : wpX_set post (0, st, ro, ti, wo, pl, a1, a2, a3, a4, a5, a6, a7, a8, a9, a10, a11, a12, a13, a14, a15, a16, a17) p t q := by
  unfold wpX_set
  exact tp_cert0 (br_t rfl H)
theorem tp_revoke0 (H : post (-1) (0, st, ro, ti, wo, pl, a1, a2, a3, a4, a5, a6, a7, a8, a9, a10, a11, a12, a13, a14, a15, a16, a17)) : wpX_revoke post (0, st, ro, ti, wo, pl, a1, a2, a3, a4, a5, a6, a7, a8, a9, a10, a11, a12, a13, a14, a15, a16, a17) p t := by
  unfold wpX_revoke
  exact tp_cert0 (br_t rfl H)
theorem tp_hold0 (H : post (-1) (0, st, ro, ti, wo, pl, a1, a2, a3, a4, a5, a6, a7, a8, a9, a10, a11, a12, a13, a14, a15, a16, a17)) : wpX_hold post (0, st, ro, ti, wo, pl, a1, a2, a3, a4, a5, a6, a7, a8, a9, a10, a11, a12, a13, a14, a15, a16, a17) p t := by
  unfold wpX_hold
  exact tp_cert0 (br_t rfl H)
theorem tp_countN (h : ¬ tp_T t) (H : post (-1) (cn, st, ro, ti, wo, pl, a1, a2, a3, a4, a5, a6, a7, a8, a9, a10, a11, a12, a13, a14, a15, a16, a17)) : wpX_count post (cn, st, ro, ti, wo, pl, a1, a2, a3, a4, a5, a6, a7, a8, a9, a10, a11, a12, a13, a14, a15, a16, a17) t := by
  unfold wpX_count
  exact tp_timeN h (br_t rfl H)
theorem tp_count0 (h : tp_T t) (H : ∀ (st ro ti wo pl : Int32) (a11 a12 a13 a14 a15 a16 a17 : Nat → Int32), post 0 (0, st, ro, ti, wo, pl, a1, a2, a3, a4, a5, a6, a7, a8, a9, a10, a11, a12, a13, a14, a15, a16, a17)) : wpX_count post (0, st, ro, ti, wo, pl, a1, a2, a3, a4, a5, a6, a7, a8, a9, a10, a11, a12, a13, a14, a15, a16, a17) t := by
  unfold wpX_count
  exact tp_time h (br_f (by decide) (tp_find0 (fun ro b16 => tp_set0 (tp_ones0 (H _ _ _ _ _ _ _ _ _ _ _ _)))))
theorem tp_keys0N (h : ¬ (¬ p < 0 ∧ ¬ 8 ≤ p ∧ tp_T t ∧ ¬ q < 0 ∧ ¬ 4 ≤ q)) (H : post (-1) (cn, st, ro, ti, wo, pl, a1, a2, a3, a4, a5, a6, a7, a8, a9, a10, a11, a12, a13, a14, a15, a16, a17)) : wpX_keysOf post (cn, st, ro, ti, wo, pl, a1, a2, a3, a4, a5, a6, a7, a8, a9, a10, a11, a12, a13, a14, a15, a16, a17) p t q := by
  unfold wpX_keysOf
  refine br_c (fun _ => H) (fun h1 => br_c (fun _ => H) (fun h2 => ?_))
  by_cases hT : tp_T t
  · refine tp_time hT (br_f (by decide) (br_c (fun _ => H) (fun h3 => br_c (fun h4 => absurd ⟨h1, h2, hT, h3, fun h5 => ?_⟩ h) (fun _ => H))))
    exact absurd (Int32.le_trans h5 h4) (by decide)
  · exact tp_timeN hT (br_t rfl H)
theorem tp_q3 {q : Int32} (h : ¬ 4 ≤ q) : q ≤ 3 := by
  have h1 := Int32.lt_iff_toInt_lt.mp (Int32.not_le.mp h)
  refine Int32.le_iff_toInt_le.mpr ?_
  have e1 : (4 : Int32).toInt = 4 := by decide
  have e2 : (3 : Int32).toInt = 3 := by decide
  omega
theorem tp_keys0 (h : ¬ p < 0 ∧ ¬ 8 ≤ p ∧ tp_T t ∧ ¬ q < 0 ∧ ¬ 4 ≤ q) (H : ∀ (st ro ti wo pl : Int32) (a11 a12 a13 a14 a15 a16 a17 : Nat → Int32), post 0 (0, st, ro, ti, wo, pl, a1, a2, a3, a4, a5, a6, a7, a8, a9, a10, a11, a12, a13, a14, a15, a16, a17)) : wpX_keysOf post (0, st, ro, ti, wo, pl, a1, a2, a3, a4, a5, a6, a7, a8, a9, a10, a11, a12, a13, a14, a15, a16, a17) p t q := by
  unfold wpX_keysOf
  exact br_f h.1 (br_f h.2.1 (tp_time h.2.2.1 (br_f (by decide) (br_f h.2.2.2.1 (br_t (tp_q3 h.2.2.2.2) (tp_find0 (fun ro b16 => ⟨0 + 1, br_t (by decide) (H _ _ _ _ _ _ _ _ _ _ _ _)⟩)))))))
/-! one certificate -/
theorem tp_trustedN (h : ¬ tp_T t) (H : post (-1) (1, st, ro, ti, wo, pl, a1, a2, a3, a4, a5, a6, a7, a8, a9, a10, a11, a12, a13, a14, a15, a16, a17)) : wpX_trusted post (1, st, ro, ti, wo, pl, a1, a2, a3, a4, a5, a6, a7, a8, a9, a10, a11, a12, a13, a14, a15, a16, a17) 0 t := by
  unfold wpX_trusted
  exact tp_ask1N h (br_t rfl H)
theorem tp_lengthN (h : ¬ tp_T t) (H : post (-1) (1, st, ro, ti, wo, pl, a1, a2, a3, a4, a5, a6, a7, a8, a9, a10, a11, a12, a13, a14, a15, a16, a17)) : wpX_length post (1, st, ro, ti, wo, pl, a1, a2, a3, a4, a5, a6, a7, a8, a9, a10, a11, a12, a13, a14, a15, a16, a17) 0 t := by
  unfold wpX_length
  exact tp_ask1N h (br_t rfl H)
theorem tp_stepN (h : ¬ tp_T t) (H : post (-1) (1, st, ro, ti, wo, pl, a1, a2, a3, a4, a5, a6, a7, a8, a9, a10, a11, a12, a13, a14, a15, a16, a17)) : wpX_step post (1, st, ro, ti, wo, pl, a1, a2, a3, a4, a5, a6, a7, a8, a9, a10, a11, a12, a13, a14, a15, a16, a17) 0 t q := by
  unfold wpX_step
  exact tp_ask1N h (br_t rfl H)
theorem tp_trusted1 (hN : tp_N a3) (hT : tp_T t) (hr : tp_V (tp_E a1 a2 a5 a6 a7 a8 a9 a10 t (-1)) r) (H : ∀ (st ro ti wo pl : Int32) (a11 a12 a13 a14 a15 a16 a17 : Nat → Int32), post r (1, st, ro, ti, wo, pl, a1, a2, a3, a4, a5, a6, a7, a8, a9, a10, a11, a12, a13, a14, a15, a16, a17)) : wpX_trusted post (1, st, ro, ti, wo, pl, a1, a2, a3, a4, a5, a6, a7, a8, a9, a10, a11, a12, a13, a14, a15, a16, a17) 0 t := by
  unfold wpX_trusted
  rcases hr with ⟨he, rfl⟩ | ⟨he, rfl⟩
  · exact tp_ask1 hT (br_f (by decide) (tp_find1 hN (fun st ro b11 b12 b13 b14 b15 b16 hF => tp_first hN hF (fun _ => br_f (by decide) (H _ _ _ _ _ _ _ _ _ _ _ _)) (fun e => absurd he e))))
  · exact tp_ask1 hT (br_f (by decide) (tp_find1 hN (fun st ro b11 b12 b13 b14 b15 b16 hF => tp_first hN hF (fun e => absurd e he) (fun _ => br_t rfl (H _ _ _ _ _ _ _ _ _ _ _ _)))))
theorem tp_path {post : Int32 → St2 → Prop} (hN : tp_N a3) (hF : tp_F (tp_E a1 a2 a5 a6 a7 a8 a9 a10 ti wo) st a11) (h1 : tp_E a1 a2 a5 a6 a7 a8 a9 a10 ti wo → ∀ a17 : Nat → Int32, a17 0 = 0 → post 1 (cn, st, ro, ti, wo, 1, a1, a2, a3, a4, a5, a6, a7, a8, a9, a10, a11, a12, a13, a14, a15, a16, a17)) (h0 : ¬ tp_E a1 a2 a5 a6 a7 a8 a9 a10 ti wo → post 0 (cn, st, ro, ti, wo, pl, a1, a2, a3, a4, a5, a6, a7, a8, a9, a10, a11, a12, a13, a14, a15, a16, a17)) : wpX_findPath post (cn, st, ro, ti, wo, pl, a1, a2, a3, a4, a5, a6, a7, a8, a9, a10, a11, a12, a13, a14, a15, a16, a17) 0 := by
  unfold wpX_findPath
  exact tp_first hN hF (fun e => br_f (by decide) ⟨0 + 1, br_t (by decide) (nm_r (e' := 0) (by decide) ⟨tp_in (by decide), nm_e ⟨0 + 1, br_t (by decide) (h1 e _ rfl)⟩⟩)⟩) (fun e => br_t rfl (h0 e))
theorem tp_length1 (hN : tp_N a3) (hT : tp_T t) (hr : (tp_E a1 a2 a5 a6 a7 a8 a9 a10 t (-1) ∧ r = 1) ∨ (¬ tp_E a1 a2 a5 a6 a7 a8 a9 a10 t (-1) ∧ r = (-2))) (H : ∀ (st ro ti wo pl : Int32) (a11 a12 a13 a14 a15 a16 a17 : Nat → Int32), post r (1, st, ro, ti, wo, pl, a1, a2, a3, a4, a5, a6, a7, a8, a9, a10, a11, a12, a13, a14, a15, a16, a17)) : wpX_length post (1, st, ro, ti, wo, pl, a1, a2, a3, a4, a5, a6, a7, a8, a9, a10, a11, a12, a13, a14, a15, a16, a17) 0 t := by
  unfold wpX_length
  rcases hr with ⟨he, rfl⟩ | ⟨he, rfl⟩
  · exact tp_ask1 hT (br_f (by decide) (tp_find1 hN (fun st ro b11 b12 b13 b14 b15 b16 hF => tp_path hN hF (fun _ b17 _ => br_f (by decide) (H _ _ _ _ _ _ _ _ _ _ _ _)) (fun e => absurd he e))))
  · exact tp_ask1 hT (br_f (by decide) (tp_find1 hN (fun st ro b11 b12 b13 b14 b15 b16 hF => tp_path hN hF (fun e => absurd e he) (fun _ => br_t rfl (H _ _ _ _ _ _ _ _ _ _ _ _)))))
theorem tp_step1 (hN : tp_N a3) (hT : tp_T t) (hr : (tp_E a1 a2 a5 a6 a7 a8 a9 a10 t (-1) ∧ q = 0 ∧ r = 0) ∨ ((¬ tp_E a1 a2 a5 a6 a7 a8 a9 a10 t (-1) ∨ q < 0 ∨ 1 ≤ q) ∧ r = (-2))) (H : ∀ (st ro ti wo pl : Int32) (a11 a12 a13 a14 a15 a16 a17 : Nat → Int32), post r (1, st, ro, ti, wo, pl, a1, a2, a3, a4, a5, a6, a7, a8, a9, a10, a11, a12, a13, a14, a15, a16, a17)) : wpX_step post (1, st, ro, ti, wo, pl, a1, a2, a3, a4, a5, a6, a7, a8, a9, a10, a11, a12, a13, a14, a15, a16, a17) 0 t q := by
  unfold wpX_step
  rcases hr with ⟨he, rfl, rfl⟩ | ⟨he, rfl⟩
  · exact tp_ask1 hT (br_f (by decide) (tp_find1 hN (fun st ro b11 b12 b13 b14 b15 b16 hF => tp_path hN hF (fun _ b17 h17 => br_f (by decide) (br_f (by decide) (br_f (by decide) ⟨tp_in (by decide), ek_v (P := fun z => post z _) h17 (H _ _ _ _ _ _ _ _ _ _ _ _)⟩))) (fun e => absurd he e))))
  · refine tp_ask1 hT (br_f (by decide) (tp_find1 hN (fun st ro b11 b12 b13 b14 b15 b16 hF => tp_path hN hF (fun e b17 _ => br_f (by decide) ?_) (fun _ => br_t rfl (H _ _ _ _ _ _ _ _ _ _ _ _)))))
    refine br_c (fun _ => H _ _ _ _ _ _ _ _ _ _ _ _) (fun h1 => br_c (fun _ => H _ _ _ _ _ _ _ _ _ _ _ _) (fun h2 => ?_))
    rcases he with h | h | h
    · exact absurd e h
    · exact absurd h h1
    · exact absurd h h2
theorem tp_policies1 (hN : tp_N a3) (hT : tp_T t) (hr : (tp_E a1 a2 a5 a6 a7 a8 a9 a10 t (-1) ∧ r = a7 4) ∨ (¬ tp_E a1 a2 a5 a6 a7 a8 a9 a10 t (-1) ∧ r = 0)) (H : ∀ (st ro ti wo pl : Int32) (a11 a12 a13 a14 a15 a16 a17 : Nat → Int32), post r (1, st, ro, ti, wo, pl, a1, a2, a3, a4, a5, a6, a7, a8, a9, a10, a11, a12, a13, a14, a15, a16, a17)) : wpX_policies post (1, st, ro, ti, wo, pl, a1, a2, a3, a4, a5, a6, a7, a8, a9, a10, a11, a12, a13, a14, a15, a16, a17) 0 t := by
  unfold wpX_policies
  rcases hr with ⟨he, rfl⟩ | ⟨he, rfl⟩
  · exact tp_ask1 hT (br_f (by decide) (tp_find1 hN (fun st ro b11 b12 b13 b14 b15 b16 hF => tp_pol hN hF (fun _ => H _ _ _ _ _ _ _ _ _ _ _ _) (fun e => absurd he e))))
  · exact tp_ask1 hT (br_f (by decide) (tp_find1 hN (fun st ro b11 b12 b13 b14 b15 b16 hF => tp_pol hN hF (fun e => absurd e he) (fun _ => H _ _ _ _ _ _ _ _ _ _ _ _))))
theorem tp_count1 (hN : tp_N a3) (hT : tp_T t) (hr : tp_V (tp_E a1 a2 a5 a6 a7 a8 a9 a10 t (-1)) r) (H : ∀ (st ro ti wo pl : Int32) (a11 a12 a13 a14 a15 a16 a17 : Nat → Int32), post r (1, st, ro, ti, wo, pl, a1, a2, a3, a4, a5, a6, a7, a8, a9, a10, a11, a12, a13, a14, a15, a16, a17)) : wpX_count post (1, st, ro, ti, wo, pl, a1, a2, a3, a4, a5, a6, a7, a8, a9, a10, a11, a12, a13, a14, a15, a16, a17) t := by
  unfold wpX_count
  rcases hr with ⟨he, rfl⟩ | ⟨he, rfl⟩
  · exact tp_time hT (br_f (by decide) (tp_find1 hN (fun st ro b11 b12 b13 b14 b15 b16 hF => tp_set1 hN hF (fun _ => tp_ones1 (H _ _ _ _ _ _ _ _ _ _ _ _)) (fun e => absurd he e))))
  · exact tp_time hT (br_f (by decide) (tp_find1 hN (fun st ro b11 b12 b13 b14 b15 b16 hF => tp_set1 hN hF (fun e => absurd e he) (fun _ => tp_ones0 (H _ _ _ _ _ _ _ _ _ _ _ _)))))
theorem tp_keys1 (hN : tp_N a3) (hT : tp_T t) (h : ¬ p < 0 ∧ ¬ 8 ≤ p) (hp : a3 0 = p) (h4 : a7 4 = 15) (hr : (tp_E a1 a2 a5 a6 a7 a8 a9 a10 t (-1) ∧ r = (1 : Int32) <<< (a4 0 &&& 31)) ∨ (¬ tp_E a1 a2 a5 a6 a7 a8 a9 a10 t (-1) ∧ r = 0)) (H : ∀ (st ro ti wo pl : Int32) (a11 a12 a13 a14 a15 a16 a17 : Nat → Int32), post r (1, st, ro, ti, wo, pl, a1, a2, a3, a4, a5, a6, a7, a8, a9, a10, a11, a12, a13, a14, a15, a16, a17)) : wpX_keysOf post (1, st, ro, ti, wo, pl, a1, a2, a3, a4, a5, a6, a7, a8, a9, a10, a11, a12, a13, a14, a15, a16, a17) p t 3 := by
  unfold wpX_keysOf
  refine br_f h.1 (br_f h.2 (tp_time hT (br_f (by decide) (br_f (by decide) (br_t (by decide) (tp_find1 hN (fun st ro b11 b12 b13 b14 b15 b16 hF => ⟨1 + 1, br_f (by decide) ⟨tp_in (by decide), br_t hp ?_⟩⟩)))))))
  rcases hr with ⟨he, rfl⟩ | ⟨he, rfl⟩
  · exact tp_pol hN hF (fun _ => br_t (by rw [h4]; decide) ⟨tp_in (by decide), nm_r (Int32.zero_or) (nm_e (br_t (by decide) (H _ _ _ _ _ _ _ _ _ _ _ _)))⟩) (fun e => absurd he e)
  · exact tp_pol hN hF (fun e => absurd e he) (fun _ => br_f (by decide) (nm_e (br_t (by decide) (H _ _ _ _ _ _ _ _ _ _ _ _))))
theorem tp_narrow1 (hN : tp_N a3) (hT : tp_T t) (H : ∀ (st ro ti wo pl : Int32) (a11 a12 a13 a14 a15 a16 a17 : Nat → Int32), post (-2) (1, st, ro, ti, wo, pl, a1, a2, a3, a4, a5, a6, a7, a8, a9, a10, a11, a12, a13, a14, a15, a16, a17)) : wpX_narrow post (1, st, ro, ti, wo, pl, a1, a2, a3, a4, a5, a6, a7, a8, a9, a10, a11, a12, a13, a14, a15, a16, a17) 0 t := by
  unfold wpX_narrow
  exact tp_ask1 hT (br_f (by decide) (tp_find1 hN (fun st ro b11 b12 b13 b14 b15 b16 hF => tp_first hN hF (fun _ => br_f (by decide) ⟨1 + 1, br_f (by decide) (br_t rfl (nm_e (br_t (by decide) (H _ _ _ _ _ _ _ _ _ _ _ _))))⟩) (fun _ => br_t rfl (H _ _ _ _ _ _ _ _ _ _ _ _)))))
theorem tp_depending1 (hN : tp_N a3) (hT : tp_T t) (hr : tp_V (tp_E a1 a2 a5 a6 a7 a8 a9 a10 t (-1)) r) (H : ∀ (st ro ti wo pl : Int32) (a11 a12 a13 a14 a15 a16 a17 : Nat → Int32), post r (1, st, ro, ti, wo, pl, a1, a2, a3, a4, a5, a6, a7, a8, a9, a10, a11, a12, a13, a14, a15, a16, a17)) : wpX_depending post (1, st, ro, ti, wo, pl, a1, a2, a3, a4, a5, a6, a7, a8, a9, a10, a11, a12, a13, a14, a15, a16, a17) 0 t := by
  unfold wpX_depending
  refine tp_ask1 hT (br_f (by decide) (tp_find1 hN (fun st ro b11 b12 b13 b14 b15 b16 hF => ?_)))
  have he0 : ¬ tp_E a1 a2 a5 a6 a7 a8 a9 a10 t 0 := fun e => e.1.1 rfl
  rcases hr with ⟨he, rfl⟩ | ⟨he, rfl⟩
  · refine tp_set1 hN hF (fun _ => tp_find1 hN (fun st ro c11 c12 c13 c14 c15 c16 hF => tp_set1 hN hF (fun e => absurd e he0) (fun _ => ?_))) (fun e => absurd he e)
    rw [show (1 : Int32) &&& (0 ^^^ (-1)) = 1 by decide]
    exact tp_ones1 (H _ _ _ _ _ _ _ _ _ _ _ _)
  · refine tp_set1 hN hF (fun e => absurd e he) (fun _ => tp_find1 hN (fun st ro c11 c12 c13 c14 c15 c16 hF => tp_set1 hN hF (fun e => absurd e he0) (fun _ => ?_)))
    rw [show (0 : Int32) &&& (0 ^^^ (-1)) = 0 by decide]
    exact tp_ones0 (H _ _ _ _ _ _ _ _ _ _ _ _)
end
end
section
section
variable {cn st ro ti wo pl : Int32} {a1 a2 a3 a4 a5 a6 a7 a8 a9 a10 a11 a12 a13 a14 a15 a16 a17 : Nat → Int32}
variable {post : Int32 → St2 → Prop} {t r : Int32}
theorem tp_u0 {n : Nat} {x3 x5 : Int32} (H : post x3 (1, st, ro, ti, wo, pl, a1, a2, a3, a4, a5, a6, a7, a8, a9, a10, a11, a12, a13, a14, a15, a16, a17)) : wX_until_20 post 0 (n + 1) x3 0 x5 1 st ro ti wo pl a1 a2 a3 a4 a5 a6 a7 a8 a9 a10 a11 a12 a13 a14 a15 a16 a17 := br_c (fun _ => H) (fun _ => br_t rfl H)
theorem tp_u1 {n : Nat} {x3 x5 : Int32} (hN : tp_N a3) (he : ¬ tp_E a1 a2 a5 a6 a7 a8 a9 a10 x5 (-1)) (H : ∀ (st ro ti wo pl : Int32) (a11 a12 a13 a14 a15 a16 a17 : Nat → Int32), post x3 (1, st, ro, ti, wo, pl, a1, a2, a3, a4, a5, a6, a7, a8, a9, a10, a11, a12, a13, a14, a15, a16, a17)) : wX_until_20 post 0 (n + 1 + 1) x3 1 x5 1 st ro ti wo pl a1 a2 a3 a4 a5 a6 a7 a8 a9 a10 a11 a12 a13 a14 a15 a16 a17 :=
  br_c (fun _ => H _ _ _ _ _ _ _ _ _ _ _ _) (fun _ => br_f (by decide) (tp_find1 hN (fun st ro b11 b12 b13 b14 b15 b16 hF => tp_first hN hF (fun e => absurd e he) (fun _ => br_t rfl (br_t rfl (nm_e (tp_u0 (H _ _ _ _ _ _ _ _ _ _ _ _))))))))
theorem tp_u2 {e i0 : Nat} (hN : tp_N a3) (h100 : e ≤ 100) (hE : ∀ j, i0 ≤ j → j ≤ e → tp_E a1 a2 a5 a6 a7 a8 a9 a10 (nI j) (-1)) (hn : e < 100 → ¬ tp_E a1 a2 a5 a6 a7 a8 a9 a10 (nI (e + 1)) (-1)) (H : ∀ (st ro ti wo pl : Int32) (a11 a12 a13 a14 a15 a16 a17 : Nat → Int32), post (nI e) (1, st, ro, ti, wo, pl, a1, a2, a3, a4, a5, a6, a7, a8, a9, a10, a11, a12, a13, a14, a15, a16, a17)) :
    ∀ d i : Nat, i + d = e → i0 ≤ i → ∀ (x3 : Int32) (st ro ti wo pl : Int32) (a11 a12 a13 a14 a15 a16 a17 : Nat → Int32), wX_until_20 post 0 (d + 1 + 1 + 1) x3 1 (nI i) 1 st ro ti wo pl a1 a2 a3 a4 a5 a6 a7 a8 a9 a10 a11 a12 a13 a14 a15 a16 a17 := by
  intro d
  induction d with
  | zero =>
    intro i hi h0 x3 st ro ti wo pl a11 a12 a13 a14 a15 a16 a17
    obtain rfl : i = e := by omega
    refine br_f (nI_nlt (a := 100) h100 (by decide)) (br_f (by decide) (tp_find1 hN (fun st ro b11 b12 b13 b14 b15 b16 hF => tp_first hN hF (fun _ => br_f (by decide) (br_f (by decide) (nm_r (nI_1 i) ?_))) (fun e => absurd (hE i h0 (by omega)) e))))
    by_cases h : i = 100
    · subst h
      exact br_t (by decide) (H _ _ _ _ _ _ _ _ _ _ _ _)
    · exact tp_u1 hN (hn (by omega)) H
  | succ d ih =>
    intro i hi h0 x3 st ro ti wo pl a11 a12 a13 a14 a15 a16 a17
    exact br_f (nI_nlt (a := 100) (by omega) (by decide)) (br_f (by decide) (tp_find1 hN (fun st ro b11 b12 b13 b14 b15 b16 hF => tp_first hN hF (fun _ => br_f (by decide) (br_f (by decide) (nm_r (nI_1 i) (ih (i + 1) (by omega) (by omega) _ _ _ _ _ _ _ _ _ _ _ _ _)))) (fun e => absurd (hE i h0 (by omega)) e))))
theorem tp_until1 {i e : Nat} (hN : tp_N a3) (ht : t = nI i) (hr : r = nI e) (hi : i ≤ e) (h100 : e ≤ 100) (hE : ∀ j, i ≤ j → j ≤ e → tp_E a1 a2 a5 a6 a7 a8 a9 a10 (nI j) (-1)) (hn : e < 100 → ¬ tp_E a1 a2 a5 a6 a7 a8 a9 a10 (nI (e + 1)) (-1)) (H : ∀ (st ro ti wo pl : Int32) (a11 a12 a13 a14 a15 a16 a17 : Nat → Int32), post r (1, st, ro, ti, wo, pl, a1, a2, a3, a4, a5, a6, a7, a8, a9, a10, a11, a12, a13, a14, a15, a16, a17)) : wpX_until post (1, st, ro, ti, wo, pl, a1, a2, a3, a4, a5, a6, a7, a8, a9, a10, a11, a12, a13, a14, a15, a16, a17) 0 t := by
  unfold wpX_until
  subst ht hr
  exact tp_ask1 ⟨nI_pos (by omega), nI_nlt (a := 100) (by omega) (by decide)⟩ (br_f (by decide) ⟨(e - i) + 1 + 1 + 1, tp_u2 hN h100 hE hn H (e - i) i (by omega) (Nat.le_refl i) _ _ _ _ _ _ _ _ _ _ _ _ _⟩)
theorem tp_untilN (hN : tp_N a3) (hT : tp_T t) (he : ¬ tp_E a1 a2 a5 a6 a7 a8 a9 a10 t (-1)) (H : ∀ (st ro ti wo pl : Int32) (a11 a12 a13 a14 a15 a16 a17 : Nat → Int32), post (-2) (1, st, ro, ti, wo, pl, a1, a2, a3, a4, a5, a6, a7, a8, a9, a10, a11, a12, a13, a14, a15, a16, a17)) : wpX_until post (1, st, ro, ti, wo, pl, a1, a2, a3, a4, a5, a6, a7, a8, a9, a10, a11, a12, a13, a14, a15, a16, a17) 0 t := by
  unfold wpX_until
  exact tp_ask1 hT (br_f (by decide) ⟨0 + 1 + 1, tp_u1 hN he H⟩)
end
end
section
def tp_g (w : Int32) : Int32 := if w = 0 then 1 else if w = 1 then 4 else if w = 4 then 15 else 255
theorem tp_gr {post : Int32 → Prop} {w : Int32} (H : post (tp_g w)) : wpX_greatest post () w := by
  unfold tp_g at H
  refine br_c (fun h => ?_) (fun h => br_c (fun h2 => ?_) (fun h2 => br_c (fun h3 => ?_) (fun h3 => ?_)))
  · rw [if_pos h] at H
    exact H
  · rw [if_neg h, if_pos h2] at H
    exact H
  · rw [if_neg h, if_neg h2, if_pos h3] at H
    exact H
  · rw [if_neg h, if_neg h2, if_neg h3] at H
    exact H
section
variable {cn st ro ti wo pl : Int32} {a1 a2 a3 a4 a5 a6 a7 a8 a9 a10 a11 a12 a13 a14 a15 a16 a17 : Nat → Int32}
variable {post : Int32 → St2 → Prop} {t p q r : Int32}
theorem tp_setB (h : ¬ p < 0 ∧ ¬ 4 < p ∧ ¬ q < 0 ∧ ¬ q ≤ tp_g p) (H : post (-1) (1, st, ro, ti, wo, pl, a1, a2, a3, a4, a5, a6, a7, a8, a9, a10, a11, a12, a13, a14, a15, a16, a17)) : wpX_set post (1, st, ro, ti, wo, pl, a1, a2, a3, a4, a5, a6, a7, a8, a9, a10, a11, a12, a13, a14, a15, a16, a17) 0 p q := by
  unfold wpX_set
  exact tp_cert1 (br_f (by decide) (br_f h.1 (br_f h.2.1 (br_f h.2.2.1 (tp_gr (br_f h.2.2.2 H))))))
theorem tp_setG (k : Nat) (hk : p = nI k) (h5 : k < 5) (h : ¬ q < 0 ∧ q ≤ tp_g p) (hr : a7 k = r) (H : post r (1, st, ro, ti, wo, pl, a1, a2, a3, a4, a5, a6, upd a7 k q, a8, a9, a10, a11, a12, a13, a14, a15, a16, a17)) : wpX_set post (1, st, ro, ti, wo, pl, a1, a2, a3, a4, a5, a6, a7, a8, a9, a10, a11, a12, a13, a14, a15, a16, a17) 0 p q := by
  unfold wpX_set
  have e : (5 * 0 : Int32) + p = nI k := by rw [hk, show (5 * 0 : Int32) = 0 by decide, Int32.zero_add]
  have e1 : ¬ p < 0 := by rw [hk]; exact nI_pos (by omega)
  have e2 : ¬ 4 < p := by rw [hk]; exact nI_nlt (a := 4) (b := k) (by omega) (by decide)
  refine tp_cert1 (br_f (by decide) (br_f e1 (br_f e2 (br_f h.1 (tp_gr (br_t h.2 ?_))))))
  rw [e, nI_clamp (by omega)]
  exact ⟨vp_in_nI (by omega) (by decide), nm_r hr ⟨vp_in_nI (by omega) (by decide), nm_e H⟩⟩
theorem tp_timesB (hp : tp_T p) (hq : tp_T q) (h : ¬ p ≤ q) (H : post (-1) (1, st, ro, ti, wo, pl, a1, a2, a3, a4, a5, a6, a7, a8, a9, a10, a11, a12, a13, a14, a15, a16, a17)) : wpX_times post (1, st, ro, ti, wo, pl, a1, a2, a3, a4, a5, a6, a7, a8, a9, a10, a11, a12, a13, a14, a15, a16, a17) 0 p q := by
  unfold wpX_times
  exact tp_cert1 (br_f (by decide) (tp_time hp (br_f (by decide) (tp_time hq (br_f (by decide) (br_f h H))))))
theorem tp_timesG (hp : tp_T p) (hq : tp_T q) (h : p ≤ q) (H : post 0 (1, st, ro, ti, wo, pl, a1, a2, a3, a4, upd a5 0 p, upd a6 0 q, a7, a8, a9, a10, a11, a12, a13, a14, a15, a16, a17)) : wpX_times post (1, st, ro, ti, wo, pl, a1, a2, a3, a4, a5, a6, a7, a8, a9, a10, a11, a12, a13, a14, a15, a16, a17) 0 p q := by
  unfold wpX_times
  exact tp_cert1 (br_f (by decide) (tp_time hp (br_f (by decide) (tp_time hq (br_f (by decide) (br_t h ⟨tp_in (by decide), nm_e ⟨tp_in (by decide), nm_e H⟩⟩))))))
theorem tp_revokeB (h : ¬ tp_T t) (H : post (-1) (1, st, ro, ti, wo, pl, a1, a2, a3, a4, a5, a6, a7, a8, a9, a10, a11, a12, a13, a14, a15, a16, a17)) : wpX_revoke post (1, st, ro, ti, wo, pl, a1, a2, a3, a4, a5, a6, a7, a8, a9, a10, a11, a12, a13, a14, a15, a16, a17) 0 t := by
  unfold wpX_revoke
  exact tp_cert1 (br_f (by decide) (tp_timeN h (br_t rfl H)))
theorem tp_revokeG (h : tp_T t) (hr : (a8 0 = 1000 ∧ r = 0) ∨ (¬ a8 0 = 1000 ∧ r = 1)) (H : post r (1, st, ro, ti, wo, pl, a1, a2, a3, a4, a5, a6, a7, upd a8 0 t, a9, a10, a11, a12, a13, a14, a15, a16, a17)) : wpX_revoke post (1, st, ro, ti, wo, pl, a1, a2, a3, a4, a5, a6, a7, a8, a9, a10, a11, a12, a13, a14, a15, a16, a17) 0 t := by
  unfold wpX_revoke
  rcases hr with ⟨he, rfl⟩ | ⟨he, rfl⟩
  · exact tp_cert1 (br_f (by decide) (tp_time h (br_f (by decide) ⟨tp_in (by decide), br_t he ⟨tp_in (by decide), nm_e H⟩⟩)))
  · exact tp_cert1 (br_f (by decide) (tp_time h (br_f (by decide) ⟨tp_in (by decide), br_f he ⟨tp_in (by decide), nm_e H⟩⟩)))
theorem tp_holdG (hr : (a9 0 = 0 ∧ r = 0) ∨ (¬ a9 0 = 0 ∧ r = 1)) (H : post r (1, st, ro, ti, wo, pl, a1, a2, a3, a4, a5, a6, a7, a8, upd a9 0 (vp_nar .boolean t), a10, a11, a12, a13, a14, a15, a16, a17)) : wpX_hold post (1, st, ro, ti, wo, pl, a1, a2, a3, a4, a5, a6, a7, a8, a9, a10, a11, a12, a13, a14, a15, a16, a17) 0 t := by
  unfold wpX_hold
  rcases hr with ⟨he, rfl⟩ | ⟨he, rfl⟩
  · exact tp_cert1 (br_f (by decide) ⟨tp_in (by decide), br_t he ⟨tp_in (by decide), nm_e H⟩⟩)
  · exact tp_cert1 (br_f (by decide) ⟨tp_in (by decide), br_f he ⟨tp_in (by decide), nm_e H⟩⟩)
theorem tp_h1 : vp_nar .boolean 1 = 1 := rfl
theorem tp_h0 : vp_nar .boolean 0 = 0 := rfl
theorem tp_makeB (h : ¬ (¬ p < 0 ∧ ¬ 64 ≤ p ∧ ¬ q < 0 ∧ ¬ 100 ≤ q)) (H : post (-1) (cn, st, ro, ti, wo, pl, a1, a2, a3, a4, a5, a6, a7, a8, a9, a10, a11, a12, a13, a14, a15, a16, a17)) : wpX_make post (cn, st, ro, ti, wo, pl, a1, a2, a3, a4, a5, a6, a7, a8, a9, a10, a11, a12, a13, a14, a15, a16, a17) p q := by
  unfold wpX_make
  exact br_c (fun _ => H) (fun h1 => br_c (fun _ => H) (fun h2 => br_c (fun _ => H) (fun h3 => br_c (fun h4 => absurd ⟨h1, h2, h3, Int32.not_le.mpr h4⟩ h) (fun _ => H))))
theorem tp_makeG (h : ¬ p < 0 ∧ ¬ 64 ≤ p ∧ ¬ q < 0 ∧ ¬ 100 ≤ q) (H : ∀ b1 b2 b3 b4 b6 b7 b8 : Nat → Int32, b1 0 = p / 8 → b2 0 = q / 10 → b3 0 = p - p / 8 * 8 → b4 0 = q - q / 10 * 10 → b6 0 = 100 →
    b7 0 = 1 → b7 1 = 4 → b7 2 = 255 → b7 3 = a7 3 → b7 4 = 15 → b8 0 = 1000 → post 0 (1, st, ro, ti, wo, pl, b1, b2, b3, b4, a5, b6, b7, b8, a9, a10, a11, a12, a13, a14, a15, a16, a17)) : wpX_make post (0, st, ro, ti, wo, pl, a1, a2, a3, a4, a5, a6, a7, a8, a9, a10, a11, a12, a13, a14, a15, a16, a17) p q := by
  unfold wpX_make
  refine br_f h.1 (br_f h.2.1 (br_f h.2.2.1 (br_t (Int32.not_le.mp h.2.2.2) (br_t (by decide) (nm_r (e' := 1) (by decide) ⟨by decide, tp_in (by decide), nm_e ⟨by decide, tp_in (by decide), nm_e ⟨by decide, tp_in (by decide), nm_e ⟨by decide, tp_in (by decide), nm_e
    ⟨tp_in (by decide), nm_e ⟨tp_in (by decide), nm_e ⟨tp_in (by decide), nm_e ⟨tp_in (by decide), nm_e ⟨tp_in (by decide), nm_e ⟨tp_in (by decide), nm_e ?_⟩⟩⟩⟩⟩⟩⟩⟩⟩⟩)))))
  exact H _ _ _ _ _ _ _ rfl rfl rfl rfl rfl rfl rfl rfl rfl rfl rfl
theorem tp_anchorB (h : ¬ ((¬ p < 0 ∧ ¬ 3 ≤ p) ∧ ¬ q < 0 ∧ ¬ 80 ≤ q)) (H : post (-1) (cn, st, ro, ti, wo, pl, a1, a2, a3, a4, a5, a6, a7, a8, a9, a10, a11, a12, a13, a14, a15, a16, a17)) : wpX_anchor post (cn, st, ro, ti, wo, pl, a1, a2, a3, a4, a5, a6, a7, a8, a9, a10, a11, a12, a13, a14, a15, a16, a17) p q := by
  unfold wpX_anchor
  refine br_c (fun _ => br_t rfl H) (fun h1 => br_c (fun _ => br_t rfl H) (fun h2 => br_f (by decide) (br_c (fun _ => H) (fun h3 => br_c (fun h4 => absurd ⟨⟨h1, h2⟩, h3, Int32.not_le.mpr h4⟩ h) (fun _ => H)))))
theorem tp_anchorG (k : Nat) (hk : p = nI k) (h3 : k < 3) (h : ¬ q < 0 ∧ ¬ 80 ≤ q) (hr : (¬ 0 ≤ a10 k ∧ r = 0) ∨ (0 ≤ a10 k ∧ r = 1)) (H : post r (cn, st, ro, ti, wo, pl, a1, a2, a3, a4, a5, a6, a7, a8, a9, upd a10 k q, a11, a12, a13, a14, a15, a16, a17)) : wpX_anchor post (cn, st, ro, ti, wo, pl, a1, a2, a3, a4, a5, a6, a7, a8, a9, a10, a11, a12, a13, a14, a15, a16, a17) p q := by
  unfold wpX_anchor
  have e1 : ¬ p < 0 := by rw [hk]; exact nI_pos (by omega)
  have e2 : ¬ 3 ≤ p := by rw [hk]; exact nI_ge (b := 3) h3 (by decide)
  refine br_f e1 (br_f e2 (br_f (by decide) (br_f h.1 (br_t (Int32.not_le.mp h.2) ?_))))
  rw [hk, nI_clamp (by omega)]
  have go : wX_anchor_33 post (nI k) q r cn st ro ti wo pl a1 a2 a3 a4 a5 a6 a7 a8 a9 a10 a11 a12 a13 a14 a15 a16 a17 := by
    unfold wX_anchor_33
    rw [nI_clamp (by omega)]
    exact ⟨vp_in_nI h3 (by decide), nm_e H⟩
  rcases hr with ⟨he, rfl⟩ | ⟨he, rfl⟩
  · exact ⟨vp_in_nI h3 (by decide), br_f he go⟩
  · exact ⟨vp_in_nI h3 (by decide), br_t he go⟩
theorem tp_distrustB (h : ¬ (¬ p < 0 ∧ ¬ 3 ≤ p)) (H : post (-1) (cn, st, ro, ti, wo, pl, a1, a2, a3, a4, a5, a6, a7, a8, a9, a10, a11, a12, a13, a14, a15, a16, a17)) : wpX_distrust post (cn, st, ro, ti, wo, pl, a1, a2, a3, a4, a5, a6, a7, a8, a9, a10, a11, a12, a13, a14, a15, a16, a17) p := by
  unfold wpX_distrust
  exact br_c (fun _ => br_t rfl H) (fun h1 => br_c (fun _ => br_t rfl H) (fun h2 => absurd ⟨h1, h2⟩ h))
theorem tp_distrustG (k : Nat) (hk : p = nI k) (h3 : k < 3) (h1 : 0 ≤ a10 k) (H : post 0 (cn, st, ro, ti, wo, pl, a1, a2, a3, a4, a5, a6, a7, a8, a9, upd a10 k (-1), a11, a12, a13, a14, a15, a16, a17)) : wpX_distrust post (cn, st, ro, ti, wo, pl, a1, a2, a3, a4, a5, a6, a7, a8, a9, a10, a11, a12, a13, a14, a15, a16, a17) p := by
  unfold wpX_distrust
  have e1 : ¬ p < 0 := by rw [hk]; exact nI_pos (by omega)
  have e2 : ¬ 3 ≤ p := by rw [hk]; exact nI_ge (b := 3) h3 (by decide)
  refine br_f e1 (br_f e2 (br_f (by decide) ?_))
  rw [hk, nI_clamp (by omega)]
  exact ⟨vp_in_nI h3 (by decide), br_t h1 ⟨vp_in_nI h3 (by decide), nm_e H⟩⟩
theorem tp_distrustM (k : Nat) (hk : p = nI k) (h3 : k < 3) (h1 : ¬ 0 ≤ a10 k) (H : post (-2) (cn, st, ro, ti, wo, pl, a1, a2, a3, a4, a5, a6, a7, a8, a9, a10, a11, a12, a13, a14, a15, a16, a17)) : wpX_distrust post (cn, st, ro, ti, wo, pl, a1, a2, a3, a4, a5, a6, a7, a8, a9, a10, a11, a12, a13, a14, a15, a16, a17) p := by
  unfold wpX_distrust
  have e1 : ¬ p < 0 := by rw [hk]; exact nI_pos (by omega)
  have e2 : ¬ 3 ≤ p := by rw [hk]; exact nI_ge (b := 3) h3 (by decide)
  refine br_f e1 (br_f e2 (br_f (by decide) ?_))
  rw [hk, nI_clamp (by omega)]
  exact ⟨vp_in_nI h3 (by decide), br_f h1 H⟩
end
end
section
/-- what stays from the making of the certificate to the last check -/
def tp_K (y x9 x13 x14 : Int32) (a1 a2 a3 a10 : Nat → Int32) : Prop :=
  tp_N a3 ∧ tp_V (tp_A a1 a2 a10) y ∧ (x13 = 0 ∨ x14 = 0 ∨ ∃ k, k < 3 ∧ x9 = nI k ∧ 0 ≤ a10 k ∧ ¬ tp_A a1 a2 (upd a10 k (-1)))
/-- certificate 0 holds from f to e, is revoked from c, isn't held, has policies -/
def tp_W (f e c : Nat) (a5 a6 a7 a8 a9 : Nat → Int32) : Prop := a9 0 = 0 ∧ a5 0 = nI f ∧ a6 0 = nI e ∧ a8 0 = nI c ∧ ¬ 15 &&& a7 4 = 0
theorem tp_Ti {j : Nat} (h : j ≤ 100) : tp_T (nI j) := ⟨nI_pos (by omega), nI_nlt (a := 100) h (by decide)⟩
theorem tp_Tn {j : Nat} (h : 100 < j) (h2 : j < 2 ^ 31) : ¬ tp_T (nI j) := fun t => t.2 (nI_lt (a := 100) h h2)
theorem tp_Tof {t : Int32} (h : tp_T t) : ∃ j, j ≤ 100 ∧ t = nI j := nI_of2 (M := 100) (by decide) h.1 (Int32.not_lt.mp h.2)
section
variable {a1 a2 a3 a5 a6 a7 a8 a9 a10 : Nat → Int32} {y x9 x13 x14 : Int32} {f e c j : Nat}
theorem tp_Gi (hW : tp_W f e c a5 a6 a7 a8 a9) (h1 : f ≤ j) (h2 : j ≤ e) (h3 : j < c) (he : e ≤ 100) (hc : c ≤ 1000) : tp_G a5 a6 a8 a9 (nI j) (-1) := by
  obtain ⟨w9, w5, w6, w8, _⟩ := hW
  refine ⟨by decide, w9, ?_, ?_, ?_⟩
  · rw [w5]; exact nI_nlt h1 (by omega)
  · rw [w6]; exact nI_nlt h2 (by omega)
  · rw [w8]; exact nI_ge h3 (by omega)
theorem tp_Gn (hW : tp_W f e c a5 a6 a7 a8 a9) (h : j < f ∨ e < j ∨ c ≤ j) (hj : j ≤ 1000) (hf : f ≤ 1000) : ¬ tp_G a5 a6 a8 a9 (nI j) (-1) := by
  obtain ⟨w9, w5, w6, w8, _⟩ := hW
  rintro ⟨_, _, g5, g6, g8⟩
  rw [w5] at g5
  rw [w6] at g6
  rw [w8] at g8
  rcases h with h | h | h
  · exact g5 (nI_lt h (by omega))
  · exact g6 (nI_lt h (by omega))
  · exact g8 (nI_le h (by omega))
theorem tp_EV (hK : tp_K y x9 x13 x14 a1 a2 a3 a10) (hW : tp_W f e c a5 a6 a7 a8 a9) (h1 : f ≤ j) (h2 : j ≤ e) (h3 : j < c) (he : e ≤ 100) (hc : c ≤ 1000) : tp_V (tp_E a1 a2 a5 a6 a7 a8 a9 a10 (nI j) (-1)) y := by
  rcases hK.2.1 with ⟨hA, hy⟩ | ⟨hA, hy⟩
  · exact Or.inl ⟨⟨tp_Gi hW h1 h2 h3 he hc, hA, hW.2.2.2.2⟩, hy⟩
  · exact Or.inr ⟨fun E => hA E.2.1, hy⟩
theorem tp_EN (hW : tp_W f e c a5 a6 a7 a8 a9) (h : j < f ∨ e < j ∨ c ≤ j) (hj : j ≤ 1000) (hf : f ≤ 1000) : tp_V (tp_E a1 a2 a5 a6 a7 a8 a9 a10 (nI j) (-1)) 0 := Or.inr ⟨fun E => tp_Gn hW h hj hf E.1, rfl⟩
end
section
variable {cn st ro ti wo pl : Int32} {a1 a2 a3 a4 a5 a6 a7 a8 a9 a10 a11 a12 a13 a14 a15 a16 a17 : Nat → Int32}
variable {post : Int32 → St0 → Prop} {mc ms kc ks : Nat} {y x2 x9 x13 x14 x21 x22 z : Int32} {f e c v : Nat}
theorem tp_L1284 (hp : post 1 ()) (hK : tp_K y x9 x13 x14 a1 a2 a3 a10) (hW : tp_W f e 100 a5 a6 a7 a8 a9) (hf : f ≤ e) (he : e ≤ 94) : wL_lawOf_1284 post mc ms x9 x13 x14 y (nI f) (nI e) z z kc ks 1 st ro ti wo pl a1 a2 a3 a4 a5 a6 a7 a8 a9 a10 a11 a12 a13 a14 a15 a16 a17 := by
  unfold wL_lawOf_1284
  refine br_t rfl (tp_trusted1 hK.1 (tp_Ti (by omega)) (tp_EV hK hW hf (Nat.le_refl e) (by omega) (by omega) (by omega)) (fun st ro ti wo pl a11 a12 a13 a14 a15 a16 a17 => ?_))
  refine br_t rfl (br_c (fun _ => hp) (fun h13 => br_c (fun _ => hp) (fun h14 => ?_)))
  obtain ⟨hN, hA, h | h | ⟨k, h3, hk, h0, hn⟩⟩ := hK
  · exact absurd h h13
  · exact absurd h h14
  · refine tp_distrustG k hk h3 h0 (br_t rfl (tp_count1 hN (tp_Ti (by omega)) (Or.inr ⟨fun E => hn E.2.1, rfl⟩) (fun st ro ti wo pl a11 a12 a13 a14 a15 a16 a17 => br_t rfl (tp_distrustM k hk h3 ?_ (br_t rfl hp)))))
    rw [pk_us]
    decide
theorem tp_L1263 (hp : post 1 ()) (hK : tp_K y x9 x13 x14 a1 a2 a3 a10) (hW : tp_W f e c a5 a6 a7 a8 a9) (hf : f ≤ e) (he : e ≤ 94) (hx : (x22 = 0 ∧ c = 1000) ∨ (x22 = 1 ∧ c ≤ 100)) : wL_lawOf_1263 post mc ms x9 x13 x14 y (nI f) (nI e) x22 z z kc ks 1 st ro ti wo pl a1 a2 a3 a4 a5 a6 a7 a8 a9 a10 a11 a12 a13 a14 a15 a16 a17 := by
  unfold wL_lawOf_1263
  have hW' : tp_W f e 100 a5 a6 a7 (upd a8 0 100) a9 := ⟨hW.1, hW.2.1, hW.2.2.1, pk_us, hW.2.2.2.2⟩
  have e8 := hW.2.2.2.1
  rcases hx with ⟨rfl, rfl⟩ | ⟨rfl, hc⟩
  · exact br_t rfl (tp_revokeG ⟨by decide, by decide⟩ (Or.inl ⟨e8, rfl⟩) (br_t rfl (tp_L1284 hp hK hW' hf he)))
  · refine br_t rfl (tp_revokeG ⟨by decide, by decide⟩ (Or.inr ⟨fun h => ?_, rfl⟩) (br_f (by decide) (tp_L1284 hp hK hW' hf he)))
    rw [e8] at h
    have := (nI_eq (a := c) (b := 1000) (by omega) (by decide)).mp h
    omega
theorem tp_L1234 (hp : post 1 ()) (hK : tp_K y x9 x13 x14 a1 a2 a3 a10) (hW : tp_W f e c a5 a6 a7 a8 a9) (hf : f ≤ e) (he : e ≤ 94) (hv : v < 128) (hx : (x22 = 0 ∧ c = 1000) ∨ (x22 = 1 ∧ c = v ∧ c ≤ 100)) : wL_lawOf_1234 post mc ms x9 x13 x14 y (nI f) (nI e) (nI v) x22 z z kc ks 1 st ro ti wo pl a1 a2 a3 a4 a5 a6 a7 a8 a9 a10 a11 a12 a13 a14 a15 a16 a17 := by
  unfold wL_lawOf_1234
  rcases hx with ⟨rfl, rfl⟩ | ⟨rfl, rfl, hc⟩
  · refine br_t rfl (tp_trusted1 hK.1 (tp_Ti (by omega)) (tp_EV hK hW hf (Nat.le_refl e) (by omega) (by omega) (by omega)) (fun st ro ti wo pl a11 a12 a13 a14 a15 a16 a17 => br_t rfl ?_))
    unfold wL_lawOf_1261
    exact tp_L1263 hp hK hW hf he (Or.inl ⟨rfl, rfl⟩)
  · by_cases h : e < c
    · refine br_t rfl (tp_trusted1 hK.1 (tp_Ti (by omega)) (tp_EV hK hW hf (Nat.le_refl e) h (by omega) (by omega)) (fun st ro ti wo pl a11 a12 a13 a14 a15 a16 a17 => br_f (by decide) (br_t (nI_lt h (by omega)) ?_)))
      unfold wL_lawOf_1261
      exact tp_L1263 hp hK hW hf he (Or.inr ⟨rfl, hc⟩)
    · refine br_t rfl (tp_trusted1 hK.1 (tp_Ti (by omega)) (tp_EN hW (Or.inr (Or.inr (by omega))) (by omega) (by omega)) (fun st ro ti wo pl a11 a12 a13 a14 a15 a16 a17 => br_f (by decide) (br_f (nI_nlt (by omega) (by omega)) ?_)))
      exact tp_L1263 hp hK hW hf he (Or.inr ⟨rfl, hc⟩)
theorem tp_L1205 (hp : post 1 ()) (hK : tp_K y x9 x13 x14 a1 a2 a3 a10) (hW : tp_W f e c a5 a6 a7 a8 a9) (hf : f ≤ e) (he : e ≤ 94) (hv : v < 128) (hx : (x22 = 0 ∧ c = 1000) ∨ (x22 = 1 ∧ c = v ∧ c ≤ 100)) : wL_lawOf_1205 post mc ms x9 x13 x14 y (nI f) (nI e) (nI v) x22 z z kc ks 1 st ro ti wo pl a1 a2 a3 a4 a5 a6 a7 a8 a9 a10 a11 a12 a13 a14 a15 a16 a17 := by
  unfold wL_lawOf_1205
  rcases hx with ⟨rfl, rfl⟩ | ⟨rfl, rfl, hc⟩
  · refine br_t rfl (tp_trusted1 hK.1 (tp_Ti (by omega)) (tp_EV hK hW (Nat.le_refl f) hf (by omega) (by omega) (by omega)) (fun st ro ti wo pl a11 a12 a13 a14 a15 a16 a17 => br_t rfl ?_))
    unfold wL_lawOf_1232
    exact tp_L1234 hp hK hW hf he hv (Or.inl ⟨rfl, rfl⟩)
  · by_cases h : f < c
    · refine br_t rfl (tp_trusted1 hK.1 (tp_Ti (by omega)) (tp_EV hK hW (Nat.le_refl f) hf h (by omega) (by omega)) (fun st ro ti wo pl a11 a12 a13 a14 a15 a16 a17 => br_f (by decide) (br_t (nI_lt h (by omega)) ?_)))
      unfold wL_lawOf_1232
      exact tp_L1234 hp hK hW hf he hv (Or.inr ⟨rfl, rfl, hc⟩)
    · refine br_t rfl (tp_trusted1 hK.1 (tp_Ti (by omega)) (tp_EN hW (Or.inr (Or.inr (by omega))) (by omega) (by omega)) (fun st ro ti wo pl a11 a12 a13 a14 a15 a16 a17 => br_f (by decide) (br_f (nI_nlt (by omega) (by omega)) ?_)))
      exact tp_L1234 hp hK hW hf he hv (Or.inr ⟨rfl, rfl, hc⟩)
theorem tp_L1185 (hp : post 1 ()) (hK : tp_K y x9 x13 x14 a1 a2 a3 a10) (hW : tp_W f e 1000 a5 a6 a7 a8 a9) (hf : f ≤ e) (he : e ≤ 94) (hv : v < 128) (hx : (z = 0 ∧ 100 < v) ∨ (z = 1 ∧ v ≤ 100)) : wL_lawOf_1185 post mc ms x9 x13 x14 y (nI f) (nI e) (nI v) z kc ks 1 st ro ti wo pl a1 a2 a3 a4 a5 a6 a7 a8 a9 a10 a11 a12 a13 a14 a15 a16 a17 := by
  unfold wL_lawOf_1185
  rcases hx with ⟨rfl, hc⟩ | ⟨rfl, hc⟩
  · exact tp_revokeB (tp_Tn hc (by omega)) (br_t rfl (tp_L1205 hp hK hW hf he hv (Or.inl ⟨rfl, rfl⟩)))
  · have hW' : tp_W f e v a5 a6 a7 (upd a8 0 (nI v)) a9 := ⟨hW.1, hW.2.1, hW.2.2.1, pk_us, hW.2.2.2.2⟩
    exact tp_revokeG (tp_Ti hc) (Or.inl ⟨hW.2.2.2.1, rfl⟩) (br_f (by decide) (tp_L1205 hp hK hW' hf he hv (Or.inr ⟨rfl, rfl, hc⟩)))
theorem tp_L1116 (hp : post 1 ()) (hK : tp_K y x9 x13 x14 a1 a2 a3 a10) (hW : tp_W f e 1000 a5 a6 a7 a8 a9) (hf : f ≤ e) (he : e ≤ 94) : wL_lawOf_1116 post mc ms x2 x9 x13 x14 y (nI f) (nI e) z z kc ks 1 st ro ti wo pl a1 a2 a3 a4 a5 a6 a7 a8 a9 a10 a11 a12 a13 a14 a15 a16 a17 := by
  unfold wL_lawOf_1116
  have h9 : ¬ upd a9 0 (vp_nar .boolean 1) 0 = 0 := by rw [pk_us, tp_h1]; decide
  have hE : ¬ tp_E a1 a2 a5 a6 a7 a8 (upd a9 0 (vp_nar .boolean 1)) a10 (nI f) (-1) := fun E => h9 E.1.2.1
  have hW' : tp_W f e 1000 a5 a6 a7 a8 (upd (upd a9 0 (vp_nar .boolean 1)) 0 (vp_nar .boolean 0)) := ⟨by rw [pk_us, tp_h0], hW.2.1, hW.2.2.1, hW.2.2.2.1, hW.2.2.2.2⟩
  obtain ⟨v, hv, ev⟩ := pk_andE (x2 >>> ((15 : Int32) &&& 31)) (m := 127) 7 (by decide)
  refine br_t rfl (tp_holdG (Or.inl ⟨hW.1, rfl⟩) (br_t rfl (tp_trusted1 hK.1 (tp_Ti (by omega)) (Or.inr ⟨hE, rfl⟩) (fun st ro ti wo pl a11 a12 a13 a14 a15 a16 a17 => br_t rfl (tp_depending1 hK.1 (tp_Ti (by omega)) (Or.inr ⟨hE, rfl⟩) (fun st ro ti wo pl a11 a12 a13 a14 a15 a16 a17 => br_t rfl
    (tp_holdG (Or.inr ⟨h9, rfl⟩) (br_t rfl (nm_r ev ?_)))))))))
  exact br_c (fun h => tp_L1185 hp hK hW' hf he hv (Or.inl ⟨rfl, Nat.lt_of_not_le (fun g => nI_nlt (a := 100) g (by decide) h)⟩)) (fun h => tp_L1185 hp hK hW' hf he hv (Or.inr ⟨rfl, Nat.le_of_not_lt (fun g => h (nI_lt (a := 100) g (by omega)))⟩))
theorem tp_L1096 (hp : post 1 ()) (hK : tp_K y x9 x13 x14 a1 a2 a3 a10) (hW : tp_W f e 1000 a5 a6 a7 a8 a9) (hf : f ≤ e) (he : e ≤ 94) : wL_lawOf_1096 post mc ms x2 x9 x13 x14 y y (nI f) (nI e) kc ks 1 st ro ti wo pl a1 a2 a3 a4 a5 a6 a7 a8 a9 a10 a11 a12 a13 a14 a15 a16 a17 := by
  unfold wL_lawOf_1096
  rcases hK.2.1 with ⟨hA, hy⟩ | ⟨hA, hy⟩
  · refine tp_until1 (e := e) hK.1 rfl rfl hf (by omega) (fun j h1 h2 => ⟨tp_Gi hW h1 h2 (by omega) (by omega) (by omega), hA, hW.2.2.2.2⟩) (fun _ E => tp_Gn hW (Or.inr (Or.inl (by omega))) (by omega) (by omega) E.1) (fun st ro ti wo pl a11 a12 a13 a14 a15 a16 a17 => br_f (by rw [hy]; decide) ?_)
    exact tp_L1116 hp hK hW hf he
  · refine tp_untilN hK.1 (tp_Ti (by omega)) (fun E => hA E.2.1) (fun st ro ti wo pl a11 a12 a13 a14 a15 a16 a17 => br_t hy ?_)
    exact tp_L1116 hp hK hW hf he
theorem tp_L976 (hp : post 1 ()) (hK : tp_K y x9 x13 x14 a1 a2 a3 a10) (h9 : a9 0 = 0) (h8 : a8 0 = nI 1000) : wL_lawOf_976 post mc ms x2 x9 x13 x14 y y z z kc ks 1 st ro ti wo pl a1 a2 a3 a4 a5 a6 a7 a8 a9 a10 a11 a12 a13 a14 a15 a16 a17 := by
  unfold wL_lawOf_976
  obtain ⟨f, hf, ef⟩ := pk_andE (x2 >>> ((4 : Int32) &&& 31)) (m := 63) 6 (by decide)
  obtain ⟨g, hg, eg⟩ := pk_andE (x2 >>> ((10 : Int32) &&& 31)) (m := 31) 5 (by decide)
  have hW : tp_W f (f + g) 1000 (upd a5 0 (nI f)) (upd a6 0 (nI (f + g))) (upd a7 4 5) a8 a9 := ⟨h9, pk_us, pk_us, h8, by rw [pk_us]; decide⟩
  have es : nI (f + g) + 1 = nI (f + g + 1) := nI_1 _
  refine br_t rfl (tp_setG 4 rfl (by decide) ⟨by decide, by decide⟩ rfl (nm_r ef (nm_r (e' := nI (f + g)) (by rw [eg, nI_add]) ?_)))
  rw [es]
  refine tp_timesB (tp_Ti (by omega)) (tp_Ti (by omega)) (nI_ge (by omega) (by omega)) (br_t rfl (tp_timesG (tp_Ti (by omega)) (tp_Ti (by omega)) (nI_le (by omega) (by omega)) (br_t rfl ?_)))
  refine tp_trusted1 hK.1 (tp_Ti (by omega)) (tp_EV hK hW (Nat.le_refl f) (by omega) (by omega) (by omega) (by omega)) (fun st ro ti wo pl a11 a12 a13 a14 a15 a16 a17 => br_t rfl ?_)
  refine tp_trusted1 hK.1 (tp_Ti (by omega)) (tp_EV hK hW (by omega) (Nat.le_refl _) (by omega) (by omega) (by omega)) (fun st ro ti wo pl a11 a12 a13 a14 a15 a16 a17 => br_t rfl ?_)
  refine tp_trusted1 hK.1 (tp_Ti (by omega)) (tp_EN hW (Or.inr (Or.inl (by omega))) (by omega) (by omega)) (fun st ro ti wo pl a11 a12 a13 a14 a15 a16 a17 => br_t rfl ?_)
  cases f with
  | zero => exact br_t (by decide) (tp_L1096 hp hK hW (by omega) (by omega))
  | succ f =>
    refine br_f (nI_nle (by omega) (by omega)) ?_
    rw [nI_pred f]
    exact tp_trusted1 hK.1 (tp_Ti (by omega)) (tp_EN hW (Or.inl (by omega)) (by omega) (by omega)) (fun st ro ti wo pl a11 a12 a13 a14 a15 a16 a17 => br_t rfl (tp_L1096 hp hK hW (by omega) (by omega)))
end
end
section
theorem tp_m15 (x : Int32) : 15 &&& (x &&& 15) = x &&& 15 := by rw [Int32.and_comm, Int32.and_assoc, Int32.and_self]
section
variable {cn st ro ti wo pl : Int32} {a1 a2 a3 a4 a5 a6 a7 a8 a9 a10 a11 a12 a13 a14 a15 a16 a17 : Nat → Int32}
variable {post : Int32 → St0 → Prop} {mc ms kc ks : Nat} {y x2 x6 x7 x9 x10 x13 x14 x17 z : Int32}
theorem tp_L777 (hp : post 1 ()) (hK : tp_K y x9 x13 x14 a1 a2 a3 a10) (hW : tp_W 0 100 1000 a5 a6 a7 a8 a9) (s0 : a7 0 = 1) (s1 : a7 1 = 4) (s2 : a7 2 = 255) (s3 : a7 3 = 0) (s4 : a7 4 = 15) : wL_lawOf_777 post mc ms x2 x9 x13 x14 y y z z kc ks 1 st ro ti wo pl a1 a2 a3 a4 a5 a6 a7 a8 a9 a10 a11 a12 a13 a14 a15 a16 a17 := by
  unfold wL_lawOf_777
  obtain ⟨w9, w5, w6, w8, w4⟩ := hW
  have hV : ∀ (b7 : Nat → Int32) (j : Nat), j ≤ 100 → ¬ 15 &&& b7 4 = 0 → tp_V (tp_E a1 a2 a5 a6 b7 a8 a9 a10 (nI j) (-1)) y := fun b7 j hj h => tp_EV (f := 0) (e := 100) (c := 1000) hK ⟨w9, w5, w6, w8, h⟩ (by omega) hj (by omega) (by omega) (by omega)
  refine br_t rfl (tp_depending1 hK.1 (tp_Ti (j := 3) (by omega)) (hV a7 3 (by omega) w4) (fun st ro ti wo pl a11 a12 a13 a14 a15 a16 a17 => br_t rfl (tp_narrow1 hK.1 (tp_Ti (j := 3) (by omega)) (fun st ro ti wo pl a11 a12 a13 a14 a15 a16 a17 => br_t rfl ?_))))
  refine tp_setB (by decide) (br_t rfl (tp_setB (by decide) (br_t rfl (tp_setB (by decide) (br_t rfl (tp_setB (by decide) (br_t rfl ?_)))))))
  refine tp_setG 0 rfl (by decide) ⟨by decide, by decide⟩ s0 (br_t rfl ?_)
  refine tp_setG 1 rfl (by decide) ⟨by decide, by decide⟩ s1 (br_t rfl ?_)
  refine tp_setG 2 rfl (by decide) ⟨by decide, by decide⟩ s2 (br_t rfl ?_)
  refine tp_setG 3 rfl (by decide) ⟨by decide, by decide⟩ s3 (br_t rfl ?_)
  refine tp_trusted1 hK.1 (tp_Ti (j := 7) (by omega)) (hV _ 7 (by omega) w4) (fun st ro ti wo pl a11 a12 a13 a14 a15 a16 a17 => br_t rfl ?_)
  obtain ⟨v, hv, ev⟩ := pk_andE x2 (m := 15) 4 (by decide)
  have hg : tp_g 4 = nI 15 := by decide
  refine tp_setG 4 rfl (by decide) ⟨by rw [ev]; exact nI_pos (by omega), by rw [ev, hg]; exact nI_le (by omega) (by decide)⟩ s4 (br_t rfl ?_)
  have e4 : ∀ b7 : Nat → Int32, upd b7 4 (x2 &&& 15) 4 = x2 &&& 15 := fun b7 => pk_us
  by_cases h0 : x2 &&& 15 = 0
  · have hE : ∀ b7 : Nat → Int32, ¬ tp_E a1 a2 a5 a6 (upd b7 4 (x2 &&& 15)) a8 a9 a10 7 (-1) := fun b7 E => E.2.2 (by rw [e4, tp_m15]; exact h0)
    refine tp_policies1 (r := 0) hK.1 (tp_Ti (j := 7) (by omega)) (Or.inr ⟨hE _, rfl⟩) (fun st ro ti wo pl a11 a12 a13 a14 a15 a16 a17 => br_t (by rw [h0, Int32.mul_zero]) ?_)
    refine tp_trusted1 (r := 0) hK.1 (tp_Ti (j := 7) (by omega)) (Or.inr ⟨hE _, rfl⟩) (fun st ro ti wo pl a11 a12 a13 a14 a15 a16 a17 => br_t h0 ?_)
    exact tp_L976 hp hK w9 w8
  · have h4 : ∀ b7 : Nat → Int32, ¬ 15 &&& upd b7 4 (x2 &&& 15) 4 = 0 := fun b7 => by rw [e4, tp_m15]; exact h0
    have hP : ∀ b7 : Nat → Int32, (tp_E a1 a2 a5 a6 (upd b7 4 (x2 &&& 15)) a8 a9 a10 7 (-1) ∧ y * (x2 &&& 15) = upd b7 4 (x2 &&& 15) 4) ∨ (¬ tp_E a1 a2 a5 a6 (upd b7 4 (x2 &&& 15)) a8 a9 a10 7 (-1) ∧ y * (x2 &&& 15) = 0) := by
      intro b7
      rcases hV (upd b7 4 (x2 &&& 15)) 7 (by omega) (h4 b7) with ⟨h, e⟩ | ⟨h, e⟩
      · exact Or.inl ⟨h, by rw [e, Int32.one_mul, e4]⟩
      · exact Or.inr ⟨h, by rw [e, Int32.zero_mul]⟩
    refine tp_policies1 hK.1 (tp_Ti (j := 7) (by omega)) (hP _) (fun st ro ti wo pl a11 a12 a13 a14 a15 a16 a17 => br_t rfl ?_)
    refine tp_trusted1 hK.1 (tp_Ti (j := 7) (by omega)) (hV _ 7 (by omega) (h4 _)) (fun st ro ti wo pl a11 a12 a13 a14 a15 a16 a17 => br_f h0 ?_)
    exact tp_L976 hp hK w9 w8
theorem tp_L676 (hp : post 1 ()) (hK : tp_K y x9 x13 x14 a1 a2 a3 a10) (hW : tp_W 0 100 1000 a5 a6 a7 a8 a9) (s0 : a7 0 = 1) (s1 : a7 1 = 4) (s2 : a7 2 = 255) (s3 : a7 3 = 0) (s4 : a7 4 = 15)
    (n3 : a3 0 = x17) (n4 : a4 0 = x6 - x6 / 10 * 10) (h17 : ¬ x17 < 0 ∧ ¬ 8 ≤ x17) : wL_lawOf_676 post mc ms x2 x6 x9 x13 x14 y x17 y z z kc ks 1 st ro ti wo pl a1 a2 a3 a4 a5 a6 a7 a8 a9 a10 a11 a12 a13 a14 a15 a16 a17 := by
  unfold wL_lawOf_676
  have hV : tp_V (tp_E a1 a2 a5 a6 a7 a8 a9 a10 50 (-1)) y := tp_EV (j := 50) hK hW (by omega) (by omega) (by omega) (by omega) (by omega)
  refine br_t rfl (tp_step1 hK.1 (tp_Ti (j := 50) (by omega)) (Or.inr ⟨Or.inr (Or.inr (by decide)), rfl⟩) (fun st ro ti wo pl a11 a12 a13 a14 a15 a16 a17 => br_t rfl ?_))
  refine tp_step1 hK.1 (tp_Ti (j := 50) (by omega)) (Or.inr ⟨Or.inr (Or.inl (by decide)), rfl⟩) (fun st ro ti wo pl a11 a12 a13 a14 a15 a16 a17 => br_t rfl ?_)
  have hP : (tp_E a1 a2 a5 a6 a7 a8 a9 a10 50 (-1) ∧ 15 * y = a7 4) ∨ (¬ tp_E a1 a2 a5 a6 a7 a8 a9 a10 50 (-1) ∧ 15 * y = 0) := by
    rcases hV with ⟨h, e⟩ | ⟨h, e⟩
    · exact Or.inl ⟨h, by rw [e, s4]; decide⟩
    · exact Or.inr ⟨h, by rw [e]; decide⟩
  refine tp_policies1 hK.1 (tp_Ti (j := 50) (by omega)) hP (fun st ro ti wo pl a11 a12 a13 a14 a15 a16 a17 => br_t rfl ?_)
  refine tp_count1 hK.1 (tp_Ti (j := 50) (by omega)) hV (fun st ro ti wo pl a11 a12 a13 a14 a15 a16 a17 => br_t rfl ?_)
  have hS : (tp_E a1 a2 a5 a6 a7 a8 a9 a10 50 (-1) ∧ y <<< ((x6 - x6 / 10 * 10) &&& 31) = (1 : Int32) <<< (a4 0 &&& 31)) ∨ (¬ tp_E a1 a2 a5 a6 a7 a8 a9 a10 50 (-1) ∧ y <<< ((x6 - x6 / 10 * 10) &&& 31) = 0) := by
    rcases hV with ⟨h, e⟩ | ⟨h, e⟩
    · exact Or.inl ⟨h, by rw [e, n4]⟩
    · exact Or.inr ⟨h, by rw [e, Int32.zero_shiftLeft]⟩
  refine tp_keys1 hK.1 (tp_Ti (j := 50) (by omega)) h17 n3 s4 hS (fun st ro ti wo pl a11 a12 a13 a14 a15 a16 a17 => ⟨by decide, br_t rfl ?_⟩)
  rcases hK.2.1 with ⟨hA, hy⟩ | ⟨hA, hy⟩
  · refine tp_until1 (i := 0) (e := 100) hK.1 rfl rfl (by omega) (by omega) (fun j h1 h2 => ⟨tp_Gi hW h1 h2 (by omega) (by omega) (by omega), hA, hW.2.2.2.2⟩) (fun h => absurd h (by omega)) (fun st ro ti wo pl a11 a12 a13 a14 a15 a16 a17 => br_f (by rw [hy]; decide) ?_)
    exact tp_L777 hp hK hW s0 s1 s2 s3 s4
  · refine tp_untilN hK.1 (tp_Ti (j := 0) (by omega)) (fun E => hA E.2.1) (fun st ro ti wo pl a11 a12 a13 a14 a15 a16 a17 => br_t hy ?_)
    exact tp_L777 hp hK hW s0 s1 s2 s3 s4
theorem tp_L592 (hp : post 1 ()) (hK : tp_K y x9 x13 x14 a1 a2 a3 a10) (hW : tp_W 0 100 1000 a5 a6 a7 a8 a9) (s0 : a7 0 = 1) (s1 : a7 1 = 4) (s2 : a7 2 = 255) (s3 : a7 3 = 0) (s4 : a7 4 = 15)
    (n3 : a3 0 = x17) (n4 : a4 0 = x6 - x6 / 10 * 10) (h17 : ¬ x17 < 0 ∧ ¬ 8 ≤ x17) (hx : (x10 = 1 ∧ tp_T x7) ∨ (x10 = 0 ∧ ¬ tp_T x7)) : wL_lawOf_592 post mc ms x2 x6 x7 x9 x10 x13 x14 y x17 y kc ks 1 st ro ti wo pl a1 a2 a3 a4 a5 a6 a7 a8 a9 a10 a11 a12 a13 a14 a15 a16 a17 := by
  unfold wL_lawOf_592
  rcases hx with ⟨rfl, hT⟩ | ⟨rfl, hT⟩
  · have hV : tp_V (tp_E a1 a2 a5 a6 a7 a8 a9 a10 x7 (-1)) y := by
      obtain ⟨j, hj, rfl⟩ := tp_Tof hT
      exact tp_EV hK hW (by omega) hj (by omega) (by omega) (by omega)
    refine tp_trusted1 hK.1 hT hV (fun st ro ti wo pl a11 a12 a13 a14 a15 a16 a17 => br_f (by decide) ?_)
    unfold wL_lawOf_613
    rcases hV with ⟨h, e⟩ | ⟨h, e⟩
    · refine br_t rfl (tp_length1 hK.1 hT (Or.inl ⟨h, rfl⟩) (fun st ro ti wo pl a11 a12 a13 a14 a15 a16 a17 => br_f (by decide) (br_f (by rw [e]; decide) ?_)))
      unfold wL_lawOf_644
      refine br_t rfl (tp_step1 hK.1 hT (Or.inl ⟨h, rfl, rfl⟩) (fun st ro ti wo pl a11 a12 a13 a14 a15 a16 a17 => br_f (by decide) (br_f (by rw [e]; decide) ?_)))
      exact tp_L676 hp hK hW s0 s1 s2 s3 s4 n3 n4 h17
    · refine br_t rfl (tp_length1 hK.1 hT (Or.inr ⟨h, rfl⟩) (fun st ro ti wo pl a11 a12 a13 a14 a15 a16 a17 => br_f (by decide) (br_t e ?_)))
      unfold wL_lawOf_644
      refine br_t rfl (tp_step1 hK.1 hT (Or.inr ⟨Or.inl h, rfl⟩) (fun st ro ti wo pl a11 a12 a13 a14 a15 a16 a17 => br_f (by decide) (br_t e ?_)))
      exact tp_L676 hp hK hW s0 s1 s2 s3 s4 n3 n4 h17
  · refine tp_trustedN hT (br_t rfl ?_)
    unfold wL_lawOf_613
    refine br_t rfl (tp_lengthN hT (br_t rfl ?_))
    unfold wL_lawOf_644
    refine br_t rfl (tp_stepN hT (br_t rfl ?_))
    exact tp_L676 hp hK hW s0 s1 s2 s3 s4 n3 n4 h17
end
end
section
theorem tp_N8 : ∀ j, j < 8 → ((255 : Int32) >>> (nI j &&& 31)) &&& 1 = 1 := by decide +kernel
/-- the anchors when the certificate is made -/
def tp_R (x8 x9 x13 x14 : Int32) (a10 : Nat → Int32) : Prop :=
  (x13 = 1 ∧ x14 = 1 ∧ ∃ k, k < 3 ∧ x9 = nI k ∧ ¬ x8 < 0 ∧ a10 k = x8 ∧ ∀ j, j < 3 → j ≠ k → a10 j = (-1)) ∨ ((x13 = 0 ∨ x14 = 0) ∧ ∀ j, j < 3 → a10 j = (-1))
theorem tp_m1 {n : Nat} (h : n < 2 ^ 31) : ¬ (-1 : Int32) = nI n := fun e => nI_pos h (by rw [← e]; decide)
theorem tp_An {a1 a2 a10 : Nat → Int32} {n : Nat} (hn : n < 2 ^ 31) (e : 10 * a1 0 + a2 0 = nI n) (h : ∀ j, j < 3 → ¬ a10 j = nI n) : ¬ tp_A a1 a2 a10 := by
  unfold tp_A
  rw [e]
  exact fun g => g.elim (h 0 (by omega)) (fun g => g.elim (h 1 (by omega)) (h 2 (by omega)))
theorem tp_RK1 {x8 x9 x13 x14 : Int32} {a1 a2 a3 a10 : Nat → Int32} {n : Nat} (hN : tp_N a3) (hn : n < 2 ^ 31) (e : 10 * a1 0 + a2 0 = nI n) (hR : tp_R x8 x9 x13 x14 a10) (h13 : ¬ x13 = 0) (h14 : ¬ x14 = 0) (h : x8 = nI n) : tp_K 1 x9 x13 x14 a1 a2 a3 a10 := by
  rcases hR with ⟨_, _, k, h3, hk, h8, ek, eo⟩ | ⟨h | h, _⟩
  · refine ⟨hN, Or.inl ⟨?_, rfl⟩, Or.inr (Or.inr ⟨k, h3, hk, ?_, ?_⟩)⟩
    · have ek' : a10 k = 10 * a1 0 + a2 0 := by rw [ek, h, e]
      unfold tp_A
      obtain rfl | rfl | rfl : k = 0 ∨ k = 1 ∨ k = 2 := by omega
      · exact Or.inl ek'
      · exact Or.inr (Or.inl ek')
      · exact Or.inr (Or.inr ek')
    · rw [ek]
      exact Int32.not_lt.mp h8
    · refine tp_An hn e (fun j hj => ?_)
      by_cases g : j = k
      · rw [g, pk_us]
        exact tp_m1 hn
      · rw [pk_un g, eo j hj g]
        exact tp_m1 hn
  · exact absurd h h13
  · exact absurd h h14
theorem tp_RK0 {x8 x9 x13 x14 : Int32} {a1 a2 a3 a10 : Nat → Int32} {n : Nat} (hN : tp_N a3) (hn : n < 2 ^ 31) (e : 10 * a1 0 + a2 0 = nI n) (hR : tp_R x8 x9 x13 x14 a10) (h : x13 = 0 ∨ x14 = 0 ∨ ¬ x8 = nI n) : tp_K 0 x9 x13 x14 a1 a2 a3 a10 := by
  rcases hR with ⟨h13, h14, k, h3, hk, h8, ek, eo⟩ | ⟨h2, eo⟩
  · have hx : ¬ x8 = nI n := by
      rcases h with h | h | h
      · rw [h13] at h; exact absurd h (by decide)
      · rw [h14] at h; exact absurd h (by decide)
      · exact h
    refine ⟨hN, Or.inr ⟨?_, rfl⟩, Or.inr (Or.inr ⟨k, h3, hk, ?_, ?_⟩)⟩
    · refine tp_An hn e (fun j hj => ?_)
      by_cases g : j = k
      · rw [g, ek]
        exact hx
      · rw [eo j hj g]
        exact tp_m1 hn
    · rw [ek]
      exact Int32.not_lt.mp h8
    · refine tp_An hn e (fun j hj => ?_)
      by_cases g : j = k
      · rw [g, pk_us]
        exact tp_m1 hn
      · rw [pk_un g, eo j hj g]
        exact tp_m1 hn
  · refine ⟨hN, Or.inr ⟨?_, rfl⟩, h2.elim Or.inl (fun g => Or.inr (Or.inl g))⟩
    refine tp_An hn e (fun j hj => ?_)
    rw [eo j hj]
    exact tp_m1 hn
section
variable {cn st ro ti wo pl : Int32} {a1 a2 a3 a4 a5 a6 a7 a8 a9 a10 a11 a12 a13 a14 a15 a16 a17 : Nat → Int32}
variable {post : Int32 → St0 → Prop} {mc ms kc ks : Nat} {y x0 x1 x2 x3 x5 x6 x7 x8 x9 x10 x11 x12 x13 x14 x15 x17 z : Int32}
theorem tp_L573 (hp : post 1 ()) (hK : tp_K y x9 x13 x14 a1 a2 a3 a10) (hW : tp_W 0 100 1000 a5 a6 a7 a8 a9) (s0 : a7 0 = 1) (s1 : a7 1 = 4) (s2 : a7 2 = 255) (s3 : a7 3 = 0) (s4 : a7 4 = 15)
    (n3 : a3 0 = x5 - x5 / 8 * 8) (n4 : a4 0 = x6 - x6 / 10 * 10) (h17 : ¬ a3 0 < 0 ∧ ¬ 8 ≤ a3 0) (hx : (x10 = 1 ∧ tp_T x7) ∨ (x10 = 0 ∧ ¬ tp_T x7)) : wL_lawOf_573 post mc ms x2 x5 x6 x7 x9 x10 x13 x14 y kc ks 1 st ro ti wo pl a1 a2 a3 a4 a5 a6 a7 a8 a9 a10 a11 a12 a13 a14 a15 a16 a17 := by
  unfold wL_lawOf_573
  refine ⟨by decide, nm_r n3.symm ?_⟩
  have hy : y = 0 ∨ y = 1 := hK.2.1.elim (fun h => Or.inr h.2) (fun h => Or.inl h.2)
  rcases hy with rfl | rfl
  · exact br_t rfl (tp_L592 hp hK hW s0 s1 s2 s3 s4 rfl n4 h17 hx)
  · exact br_f (by decide) (tp_L592 hp hK hW s0 s1 s2 s3 s4 rfl n4 h17 hx)
theorem tp_L503 (hp : post 1 ()) (hR : tp_R x8 x9 x13 x14 a10) (hx : (x10 = 1 ∧ tp_T x7) ∨ (x10 = 0 ∧ ¬ tp_T x7)) (g : ¬ x5 < 0 ∧ ¬ 64 ≤ x5 ∧ ¬ x6 < 0 ∧ ¬ 100 ≤ x6)
    (n1 : a1 0 = x5 / 8) (n2 : a2 0 = x6 / 10) (n3 : a3 0 = x5 - x5 / 8 * 8) (n4 : a4 0 = x6 - x6 / 10 * 10) (h5 : a5 0 = 0) (h6 : a6 0 = 100) (s0 : a7 0 = 1) (s1 : a7 1 = 4) (s2 : a7 2 = 255) (s3 : a7 3 = 0) (s4 : a7 4 = 15) (h8 : a8 0 = 1000) (h9 : a9 0 = 0) :
    wL_lawOf_503 post mc ms x2 x5 x6 x7 x8 x9 x10 x13 x14 1 z z kc ks 1 st ro ti wo pl a1 a2 a3 a4 a5 a6 a7 a8 a9 a10 a11 a12 a13 a14 a15 a16 a17 := by
  unfold wL_lawOf_503
  obtain ⟨m, _, em⟩ := nI_of g.1
  obtain ⟨n, _, en⟩ := nI_of g.2.2.1
  have hm : m < 64 := Nat.lt_of_not_le (fun h => g.2.1 (by rw [em]; exact nI_le (a := 64) h (by omega)))
  have hn : n < 100 := Nat.lt_of_not_le (fun h => g.2.2.2 (by rw [en]; exact nI_le (a := 100) h (by omega)))
  have e8 : x5 / 8 = nI (m / 8) := by rw [em]; exact pk_div (d := 8) (by omega) (by decide) (by decide)
  have e10 : x6 / 10 = nI (n / 10) := by rw [en]; exact pk_div (d := 10) (by omega) (by decide) (by decide)
  have e3 : a3 0 = nI (m % 8) := by rw [n3, em]; exact pk_rem (d := 8) (by omega) (by decide) (by decide)
  have ev : 10 * (x5 / 8) + x6 / 10 = nI (10 * (m / 8) + n / 10) := by
    rw [e8, e10]
    show nI 10 * nI (m / 8) + nI (n / 10) = _
    rw [pk_mul, nI_add]
  have ea : 10 * a1 0 + a2 0 = nI (10 * (m / 8) + n / 10) := by rw [n1, n2, ev]
  have hN : tp_N a3 := by
    unfold tp_N
    rw [e3]
    exact tp_N8 _ (by omega)
  have h17 : ¬ a3 0 < 0 ∧ ¬ 8 ≤ a3 0 := by
    rw [e3]
    exact ⟨nI_pos (by omega), nI_ge (b := 8) (by omega) (by decide)⟩
  have hW : tp_W 0 100 1000 a5 a6 a7 a8 a9 := ⟨h9, h5, h6, h8, by rw [s4]; decide⟩
  have hb : 10 * (m / 8) + n / 10 < 2 ^ 31 := by omega
  refine br_t rfl (tp_trustedx (by decide) (br_t rfl (br_f (by decide) ?_)))
  rw [ev]
  refine br_c (fun h => ?_) (fun h13 => br_c (fun h => ?_) (fun h14 => ⟨by decide, by decide, br_c (fun h => ?_) (fun h => ?_)⟩))
  · unfold wL_lawOf_572
    exact tp_L573 hp (tp_RK0 hN hb ea hR (Or.inl h)) hW s0 s1 s2 s3 s4 n3 n4 h17 hx
  · unfold wL_lawOf_572
    exact tp_L573 hp (tp_RK0 hN hb ea hR (Or.inr (Or.inl h))) hW s0 s1 s2 s3 s4 n3 n4 h17 hx
  · exact tp_L573 hp (tp_RK1 hN hb ea hR h13 h14 h) hW s0 s1 s2 s3 s4 n3 n4 h17 hx
  · unfold wL_lawOf_572
    exact tp_L573 hp (tp_RK0 hN hb ea hR (Or.inr (Or.inr h))) hW s0 s1 s2 s3 s4 n3 n4 h17 hx
theorem tp_L482 (hp : post 1 ()) (hR : tp_R x8 x9 x13 x14 a10) (hx : (x10 = 1 ∧ tp_T x7) ∨ (x10 = 0 ∧ ¬ tp_T x7)) (h5 : a5 0 = 0) (s3 : a7 3 = 0) (h9 : a9 0 = 0)
    (g : (z = 1 ∧ (¬ x5 < 0 ∧ ¬ 64 ≤ x5 ∧ ¬ x6 < 0 ∧ ¬ 100 ≤ x6)) ∨ (z = 0 ∧ ¬ (¬ x5 < 0 ∧ ¬ 64 ≤ x5 ∧ ¬ x6 < 0 ∧ ¬ 100 ≤ x6))) : wL_lawOf_482 post mc ms x2 x5 x6 x7 x8 x9 x10 x13 x14 z kc ks 0 st ro ti wo pl a1 a2 a3 a4 a5 a6 a7 a8 a9 a10 a11 a12 a13 a14 a15 a16 a17 := by
  unfold wL_lawOf_482
  rcases g with ⟨rfl, g⟩ | ⟨rfl, g⟩
  · exact tp_makeG g (fun b1 b2 b3 b4 b6 b7 b8 n1 n2 n3 n4 h6 s0 s1 s2 t3 s4 h8 => br_f (by decide) (tp_L503 hp hR hx g n1 n2 n3 n4 h5 h6 s0 s1 s2 (t3.trans s3) s4 h8 h9))
  · refine tp_makeB g (br_t rfl ?_)
    unfold wL_lawOf_503
    exact br_t rfl (tp_trusted0 (br_t rfl (br_t rfl (tp_count0 ⟨by decide, by decide⟩ (fun st ro ti wo pl a11 a12 a13 a14 a15 a16 a17 => br_t rfl hp)))))
theorem tp_L448 (hp : post 1 ()) (hR : tp_R x8 x9 x13 x14 a10) (hx : (x10 = 1 ∧ tp_T x7) ∨ (x10 = 0 ∧ ¬ tp_T x7)) (h5 : a5 0 = 0) (s3 : a7 3 = 0) (h9 : a9 0 = 0) : wL_lawOf_448 post mc ms x2 x5 x6 x7 x8 x9 x10 x13 x14 z z kc ks 0 st ro ti wo pl a1 a2 a3 a4 a5 a6 a7 a8 a9 a10 a11 a12 a13 a14 a15 a16 a17 := by
  unfold wL_lawOf_448 wL_lawOf_481
  refine br_t rfl (br_c (fun h => ?_) (fun h1 => br_c (fun h => ?_) (fun h2 => br_c (fun h => ?_) (fun h3 => br_c (fun h => ?_) (fun h4 => ?_)))))
  · exact tp_L482 hp hR hx h5 s3 h9 (Or.inr ⟨rfl, fun t => t.1 h⟩)
  · exact tp_L482 hp hR hx h5 s3 h9 (Or.inr ⟨rfl, fun t => t.2.1 h⟩)
  · exact tp_L482 hp hR hx h5 s3 h9 (Or.inr ⟨rfl, fun t => t.2.2.1 h⟩)
  · exact tp_L482 hp hR hx h5 s3 h9 (Or.inr ⟨rfl, fun t => t.2.2.2 h⟩)
  · exact tp_L482 hp hR hx h5 s3 h9 (Or.inl ⟨rfl, h1, h2, h3, h4⟩)
theorem tp_L374 (hp : post 1 ()) (hA : ∀ j, j < 3 → a10 j = (-1)) (hP : (x13 = 1 ∧ (¬ x9 < 0 ∧ ¬ 3 ≤ x9)) ∨ (x13 = 0 ∧ ¬ (¬ x9 < 0 ∧ ¬ 3 ≤ x9))) (hE : (z = 1 ∧ (¬ x8 < 0 ∧ ¬ 80 ≤ x8)) ∨ (z = 0 ∧ ¬ (¬ x8 < 0 ∧ ¬ 80 ≤ x8)))
    (hx : (x10 = 1 ∧ tp_T x7) ∨ (x10 = 0 ∧ ¬ tp_T x7)) (h5 : a5 0 = 0) (s3 : a7 3 = 0) (h9 : a9 0 = 0) : wL_lawOf_374 post mc ms x2 x5 x6 x7 x8 x9 x10 x13 z kc ks 0 st ro ti wo pl a1 a2 a3 a4 a5 a6 a7 a8 a9 a10 a11 a12 a13 a14 a15 a16 a17 := by
  unfold wL_lawOf_374
  rcases hP with ⟨rfl, hP⟩ | ⟨rfl, hP⟩
  · obtain ⟨k, _, hk⟩ := nI_of hP.1
    have h3 : k < 3 := Nat.lt_of_not_le (fun h => hP.2 (by rw [hk]; exact nI_le (a := 3) h (by omega)))
    have hm : ¬ 0 ≤ a10 k := by rw [hA k h3]; decide
    refine tp_distrustM k hk h3 hm (br_f (by decide) ?_)
    unfold wL_lawOf_394
    rcases hE with ⟨rfl, hE⟩ | ⟨rfl, hE⟩
    · have h0 : 0 ≤ upd a10 k x8 k := by rw [pk_us]; exact Int32.not_lt.mp hE.1
      refine br_t rfl (tp_anchorG k hk h3 hE (Or.inl ⟨hm, rfl⟩) (br_f (by decide) (br_f (by decide) ?_)))
      unfold wL_lawOf_421
      refine br_t rfl (tp_anchorG k hk h3 hE (Or.inr ⟨h0, rfl⟩) (br_f (by decide) (br_f (by decide) ?_)))
      refine tp_L448 hp (Or.inl ⟨rfl, rfl, k, h3, hk, hE.1, pk_us, fun j hj g => ?_⟩) hx h5 s3 h9
      rw [pk_un g, pk_un g]
      exact hA j hj
    · have hn : ¬ ((¬ x9 < 0 ∧ ¬ 3 ≤ x9) ∧ ¬ x8 < 0 ∧ ¬ 80 ≤ x8) := fun t => hE t.2
      refine br_t rfl (tp_anchorB hn (br_f (by decide) (br_t rfl ?_)))
      unfold wL_lawOf_420 wL_lawOf_421
      refine br_t rfl (tp_anchorB hn (br_f (by decide) (br_t rfl ?_)))
      unfold wL_lawOf_447
      exact tp_L448 hp (Or.inr ⟨Or.inr rfl, hA⟩) hx h5 s3 h9
  · refine tp_distrustB hP (br_t rfl ?_)
    have hn : ¬ ((¬ x9 < 0 ∧ ¬ 3 ≤ x9) ∧ ¬ x8 < 0 ∧ ¬ 80 ≤ x8) := fun t => hP t.1
    unfold wL_lawOf_394
    refine br_t rfl (tp_anchorB hn (br_t rfl ?_))
    unfold wL_lawOf_420 wL_lawOf_421
    refine br_t rfl (tp_anchorB hn (br_t rfl ?_))
    unfold wL_lawOf_447
    exact tp_L448 hp (Or.inr ⟨Or.inl rfl, hA⟩) hx h5 s3 h9
theorem tp_L355 (hp : post 1 ()) (hA : ∀ j, j < 3 → a10 j = (-1)) (hP : (z = 1 ∧ (¬ x9 < 0 ∧ ¬ 3 ≤ x9)) ∨ (z = 0 ∧ ¬ (¬ x9 < 0 ∧ ¬ 3 ≤ x9)))
    (hx : (x10 = 1 ∧ tp_T x7) ∨ (x10 = 0 ∧ ¬ tp_T x7)) (h5 : a5 0 = 0) (s3 : a7 3 = 0) (h9 : a9 0 = 0) : wL_lawOf_355 post mc ms x2 x5 x6 x7 x8 x9 x10 z kc ks 0 st ro ti wo pl a1 a2 a3 a4 a5 a6 a7 a8 a9 a10 a11 a12 a13 a14 a15 a16 a17 := by
  unfold wL_lawOf_355 wL_lawOf_373
  refine br_c (fun h => ?_) (fun h1 => br_c (fun h => ?_) (fun h2 => ?_))
  · exact tp_L374 hp hA hP (Or.inr ⟨rfl, fun t => t.1 h⟩) hx h5 s3 h9
  · exact tp_L374 hp hA hP (Or.inr ⟨rfl, fun t => t.2 h⟩) hx h5 s3 h9
  · exact tp_L374 hp hA hP (Or.inl ⟨rfl, h1, h2⟩) hx h5 s3 h9
theorem tp_L298 (hp : post 1 ()) (hA : ∀ j, j < 3 → a10 j = (-1))
    (hx : (x10 = 1 ∧ tp_T x7) ∨ (x10 = 0 ∧ ¬ tp_T x7)) (h5 : a5 0 = 0) (s3 : a7 3 = 0) (h9 : a9 0 = 0) : wL_lawOf_298 post mc ms x0 x2 x5 x6 x7 x8 x9 x10 z z kc ks 0 st ro ti wo pl a1 a2 a3 a4 a5 a6 a7 a8 a9 a10 a11 a12 a13 a14 a15 a16 a17 := by
  unfold wL_lawOf_298
  refine br_t rfl (tp_until0 (br_t rfl (tp_depending0 (br_t rfl (tp_narrow0 (br_t rfl ?_))))))
  unfold wL_lawOf_354
  refine br_c (fun h => ?_) (fun h1 => br_c (fun h => ?_) (fun h2 => ?_))
  · exact tp_L355 hp hA (Or.inr ⟨rfl, fun t => t.1 h⟩) hx h5 s3 h9
  · exact tp_L355 hp hA (Or.inr ⟨rfl, fun t => t.2 h⟩) hx h5 s3 h9
  · exact tp_L355 hp hA (Or.inl ⟨rfl, h1, h2⟩) hx h5 s3 h9
theorem tp_L266 (hp : post 1 ()) (hA : ∀ j, j < 3 → a10 j = (-1)) (hn : (x11 = 1 ∧ (¬ x0 < 0 ∧ ¬ 8 ≤ x0)) ∨ (x11 = 0 ∧ ¬ (¬ x0 < 0 ∧ ¬ 8 ≤ x0))) (hq : (x12 = 1 ∧ (¬ x1 < 0 ∧ ¬ 4 ≤ x1)) ∨ (x12 = 0 ∧ ¬ (¬ x1 < 0 ∧ ¬ 4 ≤ x1)))
    (hx : (x10 = 1 ∧ tp_T x7) ∨ (x10 = 0 ∧ ¬ tp_T x7)) (h5 : a5 0 = 0) (s3 : a7 3 = 0) (h9 : a9 0 = 0) : wL_lawOf_266 post mc ms x0 x1 x2 x5 x6 x7 x8 x9 x10 x11 x12 z z kc ks 0 st ro ti wo pl a1 a2 a3 a4 a5 a6 a7 a8 a9 a10 a11 a12 a13 a14 a15 a16 a17 := by
  unfold wL_lawOf_266 wL_lawOf_297
  refine br_t rfl ?_
  rcases hn with ⟨e11, hn⟩ | ⟨e11, hn⟩
  · rcases hx with ⟨e10, hT⟩ | ⟨e10, hT⟩
    · rcases hq with ⟨e12, hq⟩ | ⟨e12, hq⟩
      · exact tp_keys0 ⟨hn.1, hn.2, hT, hq.1, hq.2⟩ (fun st ro ti wo pl a11 a12 a13 a14 a15 a16 a17 => br_f (by rw [e11]; decide) (br_f (by rw [e10]; decide) (br_f (by rw [e12]; decide) (tp_L298 hp hA (Or.inl ⟨e10, hT⟩) h5 s3 h9))))
      · exact tp_keys0N (fun t => hq t.2.2.2) (br_f (by rw [e11]; decide) (br_f (by rw [e10]; decide) (br_t e12 (tp_L298 hp hA (Or.inl ⟨e10, hT⟩) h5 s3 h9))))
    · exact tp_keys0N (fun t => hT t.2.2.1) (br_f (by rw [e11]; decide) (br_t e10 (tp_L298 hp hA (Or.inr ⟨e10, hT⟩) h5 s3 h9)))
  · exact tp_keys0N (fun t => hn ⟨t.1, t.2.1⟩) (br_t e11 (tp_L298 hp hA hx h5 s3 h9))
theorem tp_L247 (hp : post 1 ()) (hA : ∀ j, j < 3 → a10 j = (-1)) (hn : (x11 = 1 ∧ (¬ x0 < 0 ∧ ¬ 8 ≤ x0)) ∨ (x11 = 0 ∧ ¬ (¬ x0 < 0 ∧ ¬ 8 ≤ x0))) (hq : (z = 1 ∧ (¬ x1 < 0 ∧ ¬ 4 ≤ x1)) ∨ (z = 0 ∧ ¬ (¬ x1 < 0 ∧ ¬ 4 ≤ x1)))
    (hx : (x10 = 1 ∧ tp_T x7) ∨ (x10 = 0 ∧ ¬ tp_T x7)) (h5 : a5 0 = 0) (s3 : a7 3 = 0) (h9 : a9 0 = 0) : wL_lawOf_247 post mc ms x0 x1 x2 x5 x6 x7 x8 x9 x10 x11 z kc ks 0 st ro ti wo pl a1 a2 a3 a4 a5 a6 a7 a8 a9 a10 a11 a12 a13 a14 a15 a16 a17 := by
  unfold wL_lawOf_247
  rcases hx with ⟨e10, hT⟩ | ⟨e10, hT⟩
  · exact tp_count0 hT (fun st ro ti wo pl a11 a12 a13 a14 a15 a16 a17 => br_f (by rw [e10]; decide) (tp_L266 hp hA hn hq (Or.inl ⟨e10, hT⟩) h5 s3 h9))
  · exact tp_countN hT (br_t e10 (tp_L266 hp hA hn hq (Or.inr ⟨e10, hT⟩) h5 s3 h9))
theorem tp_L231 (hp : post 1 ()) (hA : ∀ j, j < 3 → a10 j = (-1)) (hn : (z = 1 ∧ (¬ x0 < 0 ∧ ¬ 8 ≤ x0)) ∨ (z = 0 ∧ ¬ (¬ x0 < 0 ∧ ¬ 8 ≤ x0)))
    (hx : (x10 = 1 ∧ tp_T x7) ∨ (x10 = 0 ∧ ¬ tp_T x7)) (h5 : a5 0 = 0) (s3 : a7 3 = 0) (h9 : a9 0 = 0) : wL_lawOf_231 post mc ms x0 x1 x2 x5 x6 x7 x8 x9 x10 z kc ks 0 st ro ti wo pl a1 a2 a3 a4 a5 a6 a7 a8 a9 a10 a11 a12 a13 a14 a15 a16 a17 := by
  unfold wL_lawOf_231 wL_lawOf_246
  refine br_c (fun h => ?_) (fun h1 => br_c (fun h => ?_) (fun h2 => ?_))
  · exact tp_L247 hp hA hn (Or.inr ⟨rfl, fun t => t.1 h⟩) hx h5 s3 h9
  · exact tp_L247 hp hA hn (Or.inr ⟨rfl, fun t => t.2 h⟩) hx h5 s3 h9
  · exact tp_L247 hp hA hn (Or.inl ⟨rfl, h1, h2⟩) hx h5 s3 h9
theorem tp_L116 (hp : post 1 ()) (hA : ∀ j, j < 3 → a10 j = (-1))
    (hx : (z = 1 ∧ tp_T x7) ∨ (z = 0 ∧ ¬ tp_T x7)) (h5 : a5 0 = 0) (s3 : a7 3 = 0) (h9 : a9 0 = 0) : wL_lawOf_116 post mc ms x0 x1 x2 x5 x6 x7 x8 x9 z kc ks 0 st ro ti wo pl a1 a2 a3 a4 a5 a6 a7 a8 a9 a10 a11 a12 a13 a14 a15 a16 a17 := by
  unfold wL_lawOf_116
  refine tp_times0 (br_t rfl (tp_setx0 (br_t rfl (tp_revoke0 (br_t rfl (tp_hold0 (br_t rfl (tp_trusted0 (br_t rfl (tp_length0 (br_t rfl (tp_step0 (br_t rfl (tp_policies0 (br_t rfl ?_)))))))))))))))
  unfold wL_lawOf_230
  refine br_c (fun h => ?_) (fun h1 => br_c (fun h => ?_) (fun h2 => ?_))
  · exact tp_L231 hp hA (Or.inr ⟨rfl, fun t => t.1 h⟩) hx h5 s3 h9
  · exact tp_L231 hp hA (Or.inr ⟨rfl, fun t => t.2 h⟩) hx h5 s3 h9
  · exact tp_L231 hp hA (Or.inl ⟨rfl, h1, h2⟩) hx h5 s3 h9
theorem tp_L97 (hp : post 1 ()) (hA : ∀ j, j < 3 → a10 j = (-1)) (h5 : a5 0 = 0) (s3 : a7 3 = 0) (h9 : a9 0 = 0) : wL_lawOf_97 post mc ms x0 x1 x2 x5 x6 x7 x8 z kc ks 0 st ro ti wo pl a1 a2 a3 a4 a5 a6 a7 a8 a9 a10 a11 a12 a13 a14 a15 a16 a17 := by
  unfold wL_lawOf_97 wL_lawOf_115
  refine br_c (fun h => ?_) (fun h1 => br_c (fun h => ?_) (fun h2 => ?_))
  · exact tp_L116 hp hA (Or.inr ⟨rfl, fun t => t.1 h⟩) h5 s3 h9
  · exact tp_L116 hp hA (Or.inr ⟨rfl, fun t => t.2 h⟩) h5 s3 h9
  · exact tp_L116 hp hA (Or.inl ⟨rfl, h1, h2⟩) h5 s3 h9
theorem tp_L25 (hp : post 1 ()) (hA : ∀ j, j < 3 → a10 j = (-1)) (h5 : a5 0 = 0) (s3 : a7 3 = 0) (h9 : a9 0 = 0) : wL_lawOf_25 post mc ms x0 x1 x2 x3 z kc ks 0 st ro ti wo pl a1 a2 a3 a4 a5 a6 a7 a8 a9 a10 a11 a12 a13 a14 a15 a16 a17 := by
  have h79 : ∀ x5 x6 x7 x8 : Int32, wL_lawOf_79 post mc ms x0 x1 x2 x3 x5 x6 x7 x8 kc ks 0 st ro ti wo pl a1 a2 a3 a4 a5 a6 a7 a8 a9 a10 a11 a12 a13 a14 a15 a16 a17 := fun x5 x6 x7 x8 => by
    unfold wL_lawOf_79
    exact br_c (fun _ => tp_L97 hp hA h5 s3 h9) (fun _ => tp_L97 hp hA h5 s3 h9)
  have h61 : ∀ x5 x6 x7 : Int32, wL_lawOf_61 post mc ms x0 x1 x2 x3 x5 x6 x7 kc ks 0 st ro ti wo pl a1 a2 a3 a4 a5 a6 a7 a8 a9 a10 a11 a12 a13 a14 a15 a16 a17 := fun x5 x6 x7 => by
    unfold wL_lawOf_61
    exact br_c (fun _ => h79 _ _ _ _) (fun _ => h79 _ _ _ _)
  have h43 : ∀ x5 x6 : Int32, wL_lawOf_43 post mc ms x0 x1 x2 x3 x5 x6 kc ks 0 st ro ti wo pl a1 a2 a3 a4 a5 a6 a7 a8 a9 a10 a11 a12 a13 a14 a15 a16 a17 := fun x5 x6 => by
    unfold wL_lawOf_43
    exact br_c (fun _ => h61 _ _ _) (fun _ => h61 _ _ _)
  unfold wL_lawOf_25
  exact br_c (fun _ => h43 _ _) (fun _ => h43 _ _)
end
end
section
def tp_a10 : Nat → Int32 := upd (upd (upd (fun _ => 0) 0 (-1)) 1 (-1)) 2 (-1)
theorem tp_init {post : St2 → Prop} {mc ms : Nat} (h1 : 17 ≤ mc) (h2 : 5292 ≤ ms) (H : post (0, 0, 0, 0, 0, 0, fun _ => 0, fun _ => 0, fun _ => 0, fun _ => 0, fun _ => 0, fun _ => 0, fun _ => 0, fun _ => 0, fun _ => 0, tp_a10, fun _ => 0, fun _ => 0, fun _ => 0, fun _ => 0, fun _ => 0, fun _ => 0, fun _ => 0)) : wpX_init post mc ms (0, 0, 0, 0, 0, 0) := by
  unfold wpX_init
  refine ⟨by omega, by omega, by omega, by omega, by omega, by omega, by omega, by omega, by omega, by omega, by omega, by omega, by omega, by omega, by omega, by omega, by omega, by omega, by omega, by omega, by omega, by omega, by omega, by omega, by omega, by omega, by omega, by omega, by omega, by omega, by omega, by omega, by omega, by omega, 3 + 1, ?_⟩
  exact br_f (by decide) ⟨tp_in (by decide), nm_e (nm_r (e' := 1) (by decide) (br_f (by decide) ⟨tp_in (by decide), nm_e (nm_r (e' := 2) (by decide) (br_f (by decide) ⟨tp_in (by decide), nm_e (nm_r (e' := 3) (by decide) (br_t (by decide) H))⟩))⟩))⟩
theorem tp_aj : ∀ j, j < 3 → tp_a10 j = (-1) := by decide
theorem tp_lawOf {post : Int32 → St0 → Prop} (hp : post 1 ()) (x y z w : Int32) : wpL_lawOf post 18 5315 () x y z w := by
  unfold wpL_lawOf
  exact ⟨by omega, by omega, 17, 5292, by omega, by omega, tp_init (by omega) (by omega) (br_c (fun _ => tp_L25 hp tp_aj rfl rfl rfl) (fun _ => tp_L25 hp tp_aj rfl rfl rfl))⟩
theorem tp_cell {post : Int32 → Prop} {L : Nat} {xs : Nat → Int32} {k : Nat} {p : Int32} (hL : L ≤ 4) (hk : k < 4) (e : p = nI k) (H : ∀ r, post r) : wpL_cellAt post L xs () p :=
  br_c (fun _ => H _) (fun h => ⟨by
    rw [e] at h ⊢
    exact vp_in_nI (Nat.lt_of_not_le (fun g => h (nI_le g (by omega)))) (by omega), H _⟩)
theorem i_vc (xs : Nat → Int32) (L : Nat) (hL : L ≤ 4) : wpL_law (fun r => r = 1) L xs := by
  unfold wpL_law
  exact tp_cell (k := 0) hL (by decide) rfl (fun r1 => tp_cell (k := 1) hL (by decide) rfl (fun r2 => tp_cell (k := 2) hL (by decide) rfl (fun r3 => tp_cell (k := 3) hL (by decide) rfl (fun r4 =>
    ⟨18, 5315, by omega, by omega, tp_lawOf (post := fun r _ => r = 1) rfl r1 r2 r3 r4⟩))))
end
