section
-- part 01: the pictures and small rows
/-- the 121 pictures: (3125, 0): no ballot; (t, B): one ballot of order t; B: bit 5a+b says that it prefers a to b -/
def zq_TL : List (Nat × Nat) := [(3125, 0), (194, 549790), (198, 8414110), (214, 672670), (222, 4850590), (238, 12592030), (242, 12714910), (294, 551710), (298, 8416030), (334, 616990), (346, 2713630), (358, 10512670), (366, 10577950), (414, 737950), (422, 4915870), (434, 739870), (446, 2836510), (482, 7012510), (486, 7014430), (538, 14688670), (542, 14811550), (558, 14690590), (566, 14755870), (582, 14876830), (586, 14878750), (694, 549820), (698, 8414140), (714, 672700), (722, 4850620), (738, 12592060), (742, 12714940), (894, 550840), (898, 8415160), (954, 583600), (970, 1632160), (978, 9463720), (990, 9496480), (1014, 705460), (1022, 4883380), (1054, 706480), (1070, 1755040), (1102, 5931940), (1110, 5932960), (1138, 13640620), (1142, 13763500), (1178, 13641640), (1190, 13674400), (1202, 13796260), (1210, 13797280), (1294, 552730), (1298, 8417050), (1334, 618010), (1346, 2714650), (1358, 10513690), (1366, 10578970), (1394, 552760), (1398, 8417080), (1454, 585520), (1470, 1634080), (1478, 9465640), (1490, 9498400), (1634, 650770), (1646, 2747410), (1654, 650800), (1670, 1699360), (1726, 3795970), (1730, 3796000), (1758, 11562250), (1766, 11627530), (1778, 11562280), (1790, 11595040), (1826, 11660290), (1830, 11660320), (1914, 770710), (1922, 4948630), (1934, 772630), (1946, 2869270), (1982, 7045270), (1986, 7047190), (2014, 770740), (2022, 4948660), (2054, 771760), (2070, 1820320), (2102, 5997220), (2110, 5998240), (2134, 773650), (2146, 2870290), (2154, 773680), (2170, 1822240), (2226, 3918850), (2230, 3918880), (2382, 8093830), (2386, 8095750), (2402, 8093860), (2410, 8094880), (2426, 8096770), (2430, 8096800), (2538, 15737230), (2542, 15860110), (2558, 15739150), (2566, 15804430), (2582, 15925390), (2586, 15927310), (2638, 15737260), (2642, 15860140), (2678, 15738280), (2690, 15771040), (2702, 15892900), (2710, 15893920), (2758, 15740170), (2766, 15805450), (2778, 15740200), (2790, 15772960), (2826, 15838210), (2830, 15838240), (2882, 15958150), (2886, 15960070), (2902, 15958180), (2910, 15959200), (2926, 15961090), (2930, 15961120)]
def zq_cn (t : Nat) : Nat := if t < 3125 then 1 else 0
def zq_d (t k : Nat) : Nat := t / 5 ^ (4 - k) % 5
def zq_T1 (t : Nat) : Nat → Int32 := fun k => if k = 0 ∧ t < 3125 then nI t else 0
def zq_T2 (t : Nat) : Nat → Int32 := fun k => if k < 5 ∧ t < 3125 then nI (zq_d t k) else 0
def zq_b (B j : Nat) : Nat := (B >>> j) % 2
def zq_T3 (B : Nat) : Nat → Int32 := fun j => nI (zq_b B j)
def zq_T4 (B : Nat) : Nat → Int32 := fun j => if j < 25 then nI (zq_b B j) - nI (zq_b B (5 * (j % 5) + j / 5)) else 0
def zq_row (B j : Nat) : Nat := (B >>> (5 * j)) % 32
def zq_T5 (B : Nat) : Nat → Int32 := fun j => if j < 5 then nI (zq_row B j) else 0
/-- the place of candidate c on order t -/
def zq_pl (t c : Nat) : Nat := if t / 625 = c then 0 else if t / 125 % 5 = c then 1 else if t / 25 % 5 = c then 2 else if t / 5 % 5 = c then 3 else 4
/-- who wins -/
def zq_win (t r : Nat) : Nat := if t < 3125 then (if r = 1 then 31 - 2 ^ (t % 5) else 2 ^ (t / 625)) else 31
/-- the scores -/
def zq_sc (t r c : Nat) : Int32 := if t < 3125 then (if r = 0 ∨ r = 5 then (if zq_pl t c = 0 then 1 else 0) else if r = 1 then (if zq_pl t c = 4 then -1 else 0) else if r = 2 then nI (4 - zq_pl t c) else if r = 3 then nI (2 * (4 - zq_pl t c)) else if zq_pl t c = 0 then 1 else -1) else (if r = 3 then 4 else 0)
def zq_all (f : Nat → Nat → Bool) : Bool := zq_TL.all (fun q => f q.1 q.2)
theorem zq_allI {f : Nat → Nat → Bool} (h : zq_all f = true) {t B : Nat} (hm : (t, B) ∈ zq_TL) : f t B = true := (List.all_eq_true.mp h) (t, B) hm
def zq_rg (n : Nat) (f : Nat → Bool) : Bool := (List.range n).all f
theorem zq_rgI {n : Nat} {f : Nat → Bool} (h : zq_rg n f = true) {i : Nat} (hi : i < n) : f i = true := (List.all_eq_true.mp h) i (List.mem_range.mpr hi)
/-! mirrors -/
def zq_inb (i : Int32) (n : Nat) : Bool := !(decide (i < 0)) && decide (i.toNatClampNeg < n)
theorem zq_inbI {i : Int32} {n : Nat} (h : zq_inb i n = true) : vp_in i n := by
  unfold zq_inb at h
  rw [Bool.and_eq_true, Bool.not_eq_true', decide_eq_false_iff_not, decide_eq_true_iff] at h
  intro z
  rcases z with z | z
  · exact h.1 z
  · omega
theorem zq_cb_if {c A B : Prop} {d : Decidable c} {a b : Bool} (h : (@ite Bool c d a b) = true) (f : a = true → A) (g : b = true → B) : (c → A) ∧ (¬ c → B) :=
  ⟨fun z => f (by rw [if_pos z] at h; exact h), fun z => g (by rw [if_neg z] at h; exact h)⟩
theorem zq_cb_in {i : Int32} {n : Nat} {A : Prop} {a : Bool} (h : (zq_inb i n && a) = true) (f : vp_in i n → a = true → A) : vp_in i n ∧ A := by
  rw [Bool.and_eq_true] at h
  exact ⟨zq_inbI h.1, f (zq_inbI h.1) h.2⟩
theorem zq_cb_ne {c A : Prop} {d : Decidable c} {a : Bool} (h : (!(@decide c d) && a) = true) (f : a = true → A) : ¬ c ∧ A := by
  rw [Bool.and_eq_true, Bool.not_eq_true', decide_eq_false_iff_not] at h
  exact ⟨h.1, f h.2⟩
theorem zq_clt {i : Int32} {n : Nat} (h : vp_in i n) : i.toNatClampNeg < n := by
  rcases Nat.lt_or_ge i.toNatClampNeg n with z | z
  · exact z
  · exact absurd (Or.inr z) h
theorem zq_rd {a b : Nat → Int32} {i : Int32} {n : Nat} (g : vp_in i n) (h : ∀ k, k < n → a k = b k) : a i.toNatClampNeg = b i.toNatClampNeg := h _ (zq_clt g)
theorem zq_eqk {post : Int32 → Prop} {v : Int32} (H : post v) : ∀ y, (y == v) = true → post y := fun y h => (eq_of_beq h) ▸ H
/-! fills -/
theorem zq_fill {f s : Nat → Int32} {i k : Nat} {x : Int32} (hk : k = i) (h : ∀ j, j < i → s j = f j) (hx : x = f i) : ∀ j, j < i + 1 → upd s k x j = f j := by
  intro j hj
  rw [hk]
  by_cases e : j = i
  · rw [e, pk_us, hx]
  · rw [pk_un e]
    exact h j (by omega)
theorem zq_fillO {f s : Nat → Int32} {i k N : Nat} {x : Int32} (hk : k = i) (h : ∀ j, (j < i ∨ N ≤ j) → s j = f j) (hx : x = f i) : ∀ j, (j < i + 1 ∨ N ≤ j) → upd s k x j = f j := by
  intro j hj
  rw [hk]
  by_cases e : j = i
  · rw [e, pk_us, hx]
  · rw [pk_un e]
    exact h j (by omega)
theorem zq_55 (a b : Nat) : (5 * nI a) + nI b = nI (5 * a + b) := by
  rw [show (5 : Int32) = nI 5 from rfl, pk_mul, nI_add]
theorem zq_50 (b : Nat) : ((5 : Int32) * 0) + nI b = nI b := by
  rw [show (0 : Int32) = nI 0 from rfl, zq_55, Nat.mul_zero, Nat.zero_add]
/-! facts of the list -/
theorem zq_lt {t B : Nat} (hm : (t, B) ∈ zq_TL) : t ≤ 3125 ∧ B < 2 ^ 25 := by
  have h : zq_all (fun t B => decide (t ≤ 3125 ∧ B < 2 ^ 25)) = true := by decide +kernel
  exact of_decide_eq_true (zq_allI h hm)
end
section
-- printed by mir.py
noncomputable def zm_onesIn_4 (k_ : Int32 → Bool) (n_ : Nat) : Int32 → Int32 → Bool := @Nat.rec (fun _ => Int32 → Int32 → Bool) (fun _ _ => false) (fun _ ih => fun x2 x3 => (if x3 = 0 then (k_ x2) else ((fun (x3_2 : Int32) => ((fun (x2_3 : Int32) => (ih x2_3 x3_2)) (x2 + 1))) (x3 &&& (x3 - 1))))) n_
theorem zq_s_onesIn_4 {post : Int32 → Prop} {f0_count : Int32} {f0_counted : Int32} {f0_coupleCount : Int32} {a1 : Nat → Int32} {a2 : Nat → Int32} {a3 : Nat → Int32} {a4 : Nat → Int32} {a5 : Nat → Int32} {a6 : Nat → Int32} {a7 : Nat → Int32} {a8 : Nat → Int32} {a9 : Nat → Int32} {a10 : Nat → Int32} {a11 : Nat → Int32} {a12 : Nat → Int32} {a13 : Nat → Int32} {a14 : Nat → Int32} {a15 : Nat → Int32} {a16 : Nat → Int32} {a17 : Nat → Int32} {k_ : Int32 → Bool} {n : Nat} {x2 : Int32} {x3 : Int32} (h : zm_onesIn_4 k_ n x2 x3 = true) (hk : ∀ y, k_ y = true → post y) : wX_onesIn_4 post f0_count f0_counted f0_coupleCount a1 a2 a3 a4 a5 a6 a7 a8 a9 a10 a11 a12 a13 a14 a15 a16 a17 n x2 x3 := by
  induction n generalizing x2 x3 with
  | zero => exact absurd h Bool.false_ne_true
  | succ n ih => exact zq_cb_if h (fun h => hk _ h) (fun h => nm_e (nm_e (ih h)))
noncomputable def zm_onesIn (k_ : Int32 → Bool) (p0 : Int32) : Bool := (zm_onesIn_4 k_ 40 0 p0)
theorem zq_s_onesIn {post : Int32 → Prop} {f0_count : Int32} {f0_counted : Int32} {f0_coupleCount : Int32} {a1 : Nat → Int32} {a2 : Nat → Int32} {a3 : Nat → Int32} {a4 : Nat → Int32} {a5 : Nat → Int32} {a6 : Nat → Int32} {a7 : Nat → Int32} {a8 : Nat → Int32} {a9 : Nat → Int32} {a10 : Nat → Int32} {a11 : Nat → Int32} {a12 : Nat → Int32} {a13 : Nat → Int32} {a14 : Nat → Int32} {a15 : Nat → Int32} {a16 : Nat → Int32} {a17 : Nat → Int32} {p0 : Int32} {k_ : Int32 → Bool} (h : zm_onesIn k_ p0 = true) (hk : ∀ y, k_ y = true → post y) : wpX_onesIn post (f0_count, f0_counted, f0_coupleCount, a1, a2, a3, a4, a5, a6, a7, a8, a9, a10, a11, a12, a13, a14, a15, a16, a17) p0 :=
  ⟨40, zq_s_onesIn_4 h hk⟩
noncomputable def zm_isIn (k_ : Int32 → Bool) (p0 : Int32) (p1 : Int32) : Bool := (if ((p0 >>> (p1 &&& 31)) &&& 1) = 0 then (k_ 0) else (k_ 1))
theorem zq_s_isIn {post : Int32 → Prop} {f0_count : Int32} {f0_counted : Int32} {f0_coupleCount : Int32} {a1 : Nat → Int32} {a2 : Nat → Int32} {a3 : Nat → Int32} {a4 : Nat → Int32} {a5 : Nat → Int32} {a6 : Nat → Int32} {a7 : Nat → Int32} {a8 : Nat → Int32} {a9 : Nat → Int32} {a10 : Nat → Int32} {a11 : Nat → Int32} {a12 : Nat → Int32} {a13 : Nat → Int32} {a14 : Nat → Int32} {a15 : Nat → Int32} {a16 : Nat → Int32} {a17 : Nat → Int32} {p0 : Int32} {p1 : Int32} {k_ : Int32 → Bool} (h : zm_isIn k_ p0 p1 = true) (hk : ∀ y, k_ y = true → post y) : wpX_isIn post (f0_count, f0_counted, f0_coupleCount, a1, a2, a3, a4, a5, a6, a7, a8, a9, a10, a11, a12, a13, a14, a15, a16, a17) p0 p1 :=
  zq_cb_if h (fun h => hk _ h) (fun h => hk _ h)
noncomputable def zm_isOrder_20 (k_ : Int32 → Bool) (n_ : Nat) : Int32 → Int32 → Int32 → Bool := @Nat.rec (fun _ => Int32 → Int32 → Int32 → Bool) (fun _ _ _ => false) (fun _ ih => fun x2 x3 x4 => (if 5 ≤ x4 then (if x2 = 31 then (k_ 1) else (k_ 0)) else ((fun (x2_6 : Int32) => ((fun (x3_8 : Int32) => ((fun (x4_9 : Int32) => (ih x2_6 x3_8 x4_9)) (x4 + 1))) (x3 / 5))) (x2 ||| ((1 : Int32) <<< ((x3 - x3 / 5 * 5) &&& 31)))))) n_
theorem zq_s_isOrder_20 {post : Int32 → Prop} {f0_count : Int32} {f0_counted : Int32} {f0_coupleCount : Int32} {a1 : Nat → Int32} {a2 : Nat → Int32} {a3 : Nat → Int32} {a4 : Nat → Int32} {a5 : Nat → Int32} {a6 : Nat → Int32} {a7 : Nat → Int32} {a8 : Nat → Int32} {a9 : Nat → Int32} {a10 : Nat → Int32} {a11 : Nat → Int32} {a12 : Nat → Int32} {a13 : Nat → Int32} {a14 : Nat → Int32} {a15 : Nat → Int32} {a16 : Nat → Int32} {a17 : Nat → Int32} {k_ : Int32 → Bool} {n : Nat} {x2 : Int32} {x3 : Int32} {x4 : Int32} (h : zm_isOrder_20 k_ n x2 x3 x4 = true) (hk : ∀ y, k_ y = true → post y) : wX_isOrder_20 post f0_count f0_counted f0_coupleCount a1 a2 a3 a4 a5 a6 a7 a8 a9 a10 a11 a12 a13 a14 a15 a16 a17 n x2 x3 x4 := by
  induction n generalizing x2 x3 x4 with
  | zero => exact absurd h Bool.false_ne_true
  | succ n ih => exact zq_cb_if h (fun h => zq_cb_if h (fun h => hk _ h) (fun h => hk _ h)) (fun h => ⟨by decide, nm_e (⟨by decide, nm_e (nm_e (ih h))⟩)⟩)
noncomputable def zm_isOrder (k_ : Int32 → Bool) (p0 : Int32) : Bool := (if p0 < 0 then (k_ 0) else (if p0 ≤ 3124 then (zm_isOrder_20 k_ 40 0 p0 0) else (k_ 0)))
theorem zq_s_isOrder {post : Int32 → Prop} {f0_count : Int32} {f0_counted : Int32} {f0_coupleCount : Int32} {a1 : Nat → Int32} {a2 : Nat → Int32} {a3 : Nat → Int32} {a4 : Nat → Int32} {a5 : Nat → Int32} {a6 : Nat → Int32} {a7 : Nat → Int32} {a8 : Nat → Int32} {a9 : Nat → Int32} {a10 : Nat → Int32} {a11 : Nat → Int32} {a12 : Nat → Int32} {a13 : Nat → Int32} {a14 : Nat → Int32} {a15 : Nat → Int32} {a16 : Nat → Int32} {a17 : Nat → Int32} {p0 : Int32} {k_ : Int32 → Bool} (h : zm_isOrder k_ p0 = true) (hk : ∀ y, k_ y = true → post y) : wpX_isOrder post (f0_count, f0_counted, f0_coupleCount, a1, a2, a3, a4, a5, a6, a7, a8, a9, a10, a11, a12, a13, a14, a15, a16, a17) p0 :=
  zq_cb_if h (fun h => hk _ h) (fun h => zq_cb_if h (fun h => ⟨40, zq_s_isOrder_20 h hk⟩) (fun h => hk _ h))
noncomputable def zm_removalsOf_90 (k_ : Int32 → Bool) (j_ : Int32 → Int32 → Bool) (x1 : Int32) (x2 : Int32) (x3 : Int32) (x4 : Int32) (x5 : Int32) : Bool := (if x5 = 0 then ((fun (x3_7 : Int32) => (j_ x2 x3_7)) (x3 + 1)) else ((fun (x3_8 : Int32) => (j_ x4 x3_8)) (x3 + 1)))
theorem zq_s_removalsOf_90 {post : Int32 → Prop} {J4 : Int32 → Int32 → Prop} {x1 : Int32} {x2 : Int32} {x3 : Int32} {x4 : Int32} {x5 : Int32} {f0_count : Int32} {f0_counted : Int32} {f0_coupleCount : Int32} {a1 : Nat → Int32} {a2 : Nat → Int32} {a3 : Nat → Int32} {a4 : Nat → Int32} {a5 : Nat → Int32} {a6 : Nat → Int32} {a7 : Nat → Int32} {a8 : Nat → Int32} {a9 : Nat → Int32} {a10 : Nat → Int32} {a11 : Nat → Int32} {a12 : Nat → Int32} {a13 : Nat → Int32} {a14 : Nat → Int32} {a15 : Nat → Int32} {a16 : Nat → Int32} {a17 : Nat → Int32} {k_ : Int32 → Bool} {j_ : Int32 → Int32 → Bool} (h : zm_removalsOf_90 k_ j_ x1 x2 x3 x4 x5 = true) (hk : ∀ y, k_ y = true → post y) (hj : ∀ y0 y1, j_ y0 y1 = true → J4 y0 y1) : wX_removalsOf_90 post J4 x1 x2 x3 x4 x5 f0_count f0_counted f0_coupleCount a1 a2 a3 a4 a5 a6 a7 a8 a9 a10 a11 a12 a13 a14 a15 a16 a17 :=
  zq_cb_if h (fun h => nm_e (hj _ _ h)) (fun h => nm_e (hj _ _ h))
noncomputable def zm_removalsOf_36 (k_ : Int32 → Bool) (j_ : Int32 → Int32 → Bool) (x1 : Int32) (x2 : Int32) (x3 : Int32) (x4 : Int32) (a3 : Nat → Int32) (n_ : Nat) : Int32 → Int32 → Bool := @Nat.rec (fun _ => Int32 → Int32 → Bool) (fun _ _ => false) (fun _ ih => fun x5 x6 => (if 5 ≤ x6 then (zm_removalsOf_90 k_ j_ x1 x2 x3 x4 x5) else (if x5 = 0 then (zm_removalsOf_90 k_ j_ x1 x2 x3 x4 x5) else (if x6 = x1 then ((fun (x6_11 : Int32) => (ih 1 x6_11)) (x6 + 1)) else (zq_inb ((5 * x1) + x6) 25 && (zm_onesIn (fun r_13 => (if (2 * r_13) ≤ x4 then ((fun (x6_15 : Int32) => (ih 0 x6_15)) (x6 + 1)) else ((fun (x6_16 : Int32) => (ih 1 x6_16)) (x6 + 1)))) ((a3 ((5 * x1) + x6).toNatClampNeg) &&& x3))))))) n_
theorem zq_s_removalsOf_36 {post : Int32 → Prop} {J4 : Int32 → Int32 → Prop} {x1 : Int32} {x2 : Int32} {x3 : Int32} {x4 : Int32} {f0_count : Int32} {f0_counted : Int32} {f0_coupleCount : Int32} {a1 : Nat → Int32} {a2 : Nat → Int32} {a3 : Nat → Int32} {a4 : Nat → Int32} {a5 : Nat → Int32} {a6 : Nat → Int32} {a7 : Nat → Int32} {a8 : Nat → Int32} {a9 : Nat → Int32} {a10 : Nat → Int32} {a11 : Nat → Int32} {a12 : Nat → Int32} {a13 : Nat → Int32} {a14 : Nat → Int32} {a15 : Nat → Int32} {a16 : Nat → Int32} {a17 : Nat → Int32} {k_ : Int32 → Bool} {j_ : Int32 → Int32 → Bool} {n : Nat} {x5 : Int32} {x6 : Int32} (h : zm_removalsOf_36 k_ j_ x1 x2 x3 x4 a3 n x5 x6 = true) (hk : ∀ y, k_ y = true → post y) (hj : ∀ y0 y1, j_ y0 y1 = true → J4 y0 y1) : wX_removalsOf_36 post J4 x1 x2 x3 x4 f0_count f0_counted f0_coupleCount a1 a2 a3 a4 a5 a6 a7 a8 a9 a10 a11 a12 a13 a14 a15 a16 a17 n x5 x6 := by
  induction n generalizing x5 x6 with
  | zero => exact absurd h Bool.false_ne_true
  | succ n ih => exact zq_cb_if h (fun h => zq_s_removalsOf_90 h hk hj) (fun h => zq_cb_if h (fun h => zq_s_removalsOf_90 h hk hj) (fun h => zq_cb_if h (fun h => nm_e (ih h)) (fun h => zq_cb_in h (fun _ h => zq_s_onesIn h (fun _ h => zq_cb_if h (fun h => nm_e (ih h)) (fun h => nm_e (ih h)))))))
noncomputable def zm_removalsOf_4 (k_ : Int32 → Bool) (x1 : Int32) (f0_count : Int32) (a3 : Nat → Int32) (n_ : Nat) : Int32 → Int32 → Bool := @Nat.rec (fun _ => Int32 → Int32 → Bool) (fun _ _ => false) (fun _ ih => fun x2 x3 => (if ((1 : Int32) <<< (f0_count &&& 31)) ≤ x3 then (if x2 = 0 then (k_ (-1002)) else (k_ (f0_count - x2))) else (zm_onesIn (fun r_3 => (if x2 < r_3 then (zm_removalsOf_36 k_ ih x1 x2 x3 r_3 a3 40 1 0) else ((fun (x3_17 : Int32) => (ih x2 x3_17)) (x3 + 1)))) x3))) n_
theorem zq_s_removalsOf_4 {post : Int32 → Prop} {x1 : Int32} {f0_count : Int32} {f0_counted : Int32} {f0_coupleCount : Int32} {a1 : Nat → Int32} {a2 : Nat → Int32} {a3 : Nat → Int32} {a4 : Nat → Int32} {a5 : Nat → Int32} {a6 : Nat → Int32} {a7 : Nat → Int32} {a8 : Nat → Int32} {a9 : Nat → Int32} {a10 : Nat → Int32} {a11 : Nat → Int32} {a12 : Nat → Int32} {a13 : Nat → Int32} {a14 : Nat → Int32} {a15 : Nat → Int32} {a16 : Nat → Int32} {a17 : Nat → Int32} {k_ : Int32 → Bool} {n : Nat} {x2 : Int32} {x3 : Int32} (h : zm_removalsOf_4 k_ x1 f0_count a3 n x2 x3 = true) (hk : ∀ y, k_ y = true → post y) : wX_removalsOf_4 post x1 f0_count f0_counted f0_coupleCount a1 a2 a3 a4 a5 a6 a7 a8 a9 a10 a11 a12 a13 a14 a15 a16 a17 n x2 x3 := by
  induction n generalizing x2 x3 with
  | zero => exact absurd h Bool.false_ne_true
  | succ n ih => exact zq_cb_if h (fun h => zq_cb_if h (fun h => hk _ h) (fun h => hk _ h)) (fun h => zq_s_onesIn h (fun _ h => zq_cb_if h (fun h => ⟨40, zq_s_removalsOf_36 h hk (fun _ _ h => ih h)⟩) (fun h => nm_e (ih h))))
noncomputable def zm_removalsOf (k_ : Int32 → Bool) (f0_count : Int32) (a3 : Nat → Int32) (p0 : Int32) : Bool := (zm_removalsOf_4 k_ p0 f0_count a3 40 0 1)
theorem zq_s_removalsOf {post : Int32 → Prop} {f0_count : Int32} {f0_counted : Int32} {f0_coupleCount : Int32} {a1 : Nat → Int32} {a2 : Nat → Int32} {a3 : Nat → Int32} {a4 : Nat → Int32} {a5 : Nat → Int32} {a6 : Nat → Int32} {a7 : Nat → Int32} {a8 : Nat → Int32} {a9 : Nat → Int32} {a10 : Nat → Int32} {a11 : Nat → Int32} {a12 : Nat → Int32} {a13 : Nat → Int32} {a14 : Nat → Int32} {a15 : Nat → Int32} {a16 : Nat → Int32} {a17 : Nat → Int32} {p0 : Int32} {k_ : Int32 → Bool} (h : zm_removalsOf k_ f0_count a3 p0 = true) (hk : ∀ y, k_ y = true → post y) : wpX_removalsOf post (f0_count, f0_counted, f0_coupleCount, a1, a2, a3, a4, a5, a6, a7, a8, a9, a10, a11, a12, a13, a14, a15, a16, a17) p0 :=
  ⟨40, zq_s_removalsOf_4 h hk⟩
noncomputable def zm_gainOver_5 (k_ : Int32 → Bool) (x1 : Int32) (x2 : Int32) (a15 : Nat → Int32) (n_ : Nat) : Int32 → Int32 → Bool := @Nat.rec (fun _ => Int32 → Int32 → Bool) (fun _ _ => false) (fun _ ih => fun x3 x4 => (zq_inb x4 4 && (if (a15 x4.toNatClampNeg) = x2 then (!(decide (x3 = 0)) && (if ((x1 / x3) - (x1 / x3) / 6 * 6) ≤ 0 then (k_ x1) else (k_ (x1 - x3)))) else ((fun (x3_6 : Int32) => ((fun (x4_7 : Int32) => (ih x3_6 x4_7)) (x4 + 1))) (x3 * 6))))) n_
theorem zq_s_gainOver_5 {post : Int32 → Prop} {x1 : Int32} {x2 : Int32} {f0_count : Int32} {f0_counted : Int32} {f0_coupleCount : Int32} {a1 : Nat → Int32} {a2 : Nat → Int32} {a3 : Nat → Int32} {a4 : Nat → Int32} {a5 : Nat → Int32} {a6 : Nat → Int32} {a7 : Nat → Int32} {a8 : Nat → Int32} {a9 : Nat → Int32} {a10 : Nat → Int32} {a11 : Nat → Int32} {a12 : Nat → Int32} {a13 : Nat → Int32} {a14 : Nat → Int32} {a15 : Nat → Int32} {a16 : Nat → Int32} {a17 : Nat → Int32} {k_ : Int32 → Bool} {b_a15 : Nat → Int32} {n : Nat} {x3 : Int32} {x4 : Int32} (h : zm_gainOver_5 k_ x1 x2 b_a15 n x3 x4 = true) (hk : ∀ y, k_ y = true → post y) (hg_a15 : ∀ k, k < 4 → a15 k = b_a15 k) : wX_gainOver_5 post x1 x2 f0_count f0_counted f0_coupleCount a1 a2 a3 a4 a5 a6 a7 a8 a9 a10 a11 a12 a13 a14 a15 a16 a17 n x3 x4 := by
  induction n generalizing x3 x4 with
  | zero => exact absurd h Bool.false_ne_true
  | succ n ih => exact zq_cb_in h (fun g h => by rw [zq_rd g hg_a15]; exact zq_cb_if h (fun h => zq_cb_ne h (fun h => ⟨by decide, zq_cb_if h (fun h => hk _ h) (fun h => hk _ h)⟩)) (fun h => nm_e (nm_e (ih h))))
noncomputable def zm_gainOver (k_ : Int32 → Bool) (a15 : Nat → Int32) (p0 : Int32) (p1 : Int32) : Bool := (zm_gainOver_5 k_ p0 p1 a15 40 1 0)
theorem zq_s_gainOver {post : Int32 → Prop} {f0_count : Int32} {f0_counted : Int32} {f0_coupleCount : Int32} {a1 : Nat → Int32} {a2 : Nat → Int32} {a3 : Nat → Int32} {a4 : Nat → Int32} {a5 : Nat → Int32} {a6 : Nat → Int32} {a7 : Nat → Int32} {a8 : Nat → Int32} {a9 : Nat → Int32} {a10 : Nat → Int32} {a11 : Nat → Int32} {a12 : Nat → Int32} {a13 : Nat → Int32} {a14 : Nat → Int32} {a15 : Nat → Int32} {a16 : Nat → Int32} {a17 : Nat → Int32} {p0 : Int32} {p1 : Int32} {k_ : Int32 → Bool} {b_a15 : Nat → Int32} (h : zm_gainOver k_ b_a15 p0 p1 = true) (hk : ∀ y, k_ y = true → post y) (hg_a15 : ∀ k, k < 4 → a15 k = b_a15 k) : wpX_gainOver post (f0_count, f0_counted, f0_coupleCount, a1, a2, a3, a4, a5, a6, a7, a8, a9, a10, a11, a12, a13, a14, a15, a16, a17) p0 p1 :=
  ⟨40, zq_s_gainOver_5 h hk hg_a15⟩
noncomputable def zm_frontOf_14 (k_ : Int32 → Bool) (x1 : Int32) (x4 : Int32) (a5 : Nat → Int32) (n_ : Nat) : Int32 → Int32 → Int32 → Bool := @Nat.rec (fun _ => Int32 → Int32 → Int32 → Bool) (fun _ _ _ => false) (fun _ ih => fun x2 x3 x5 => (if 5 ≤ x5 then (if x2 = (((1 : Int32) <<< (x4 &&& 31)) - 1) then (k_ x3) else (k_ (-1))) else (zm_isIn (fun r_4 => (if r_4 = 0 then ((fun (x5_12 : Int32) => (ih x2 x3 x5_12)) (x5 + 1)) else (zq_inb x5 5 && (zm_onesIn (fun r_7 => ((fun (x2_8 : Int32) => (if r_7 = (x4 - 1) then ((fun (x5_11 : Int32) => (ih x2_8 x5 x5_11)) (x5 + 1)) else ((fun (x5_10 : Int32) => (ih x2_8 x3 x5_10)) (x5 + 1)))) (x2 ||| ((1 : Int32) <<< (r_7 &&& 31))))) ((a5 x5.toNatClampNeg) &&& x1))))) x1 x5))) n_
theorem zq_s_frontOf_14 {post : Int32 → Prop} {x1 : Int32} {x4 : Int32} {f0_count : Int32} {f0_counted : Int32} {f0_coupleCount : Int32} {a1 : Nat → Int32} {a2 : Nat → Int32} {a3 : Nat → Int32} {a4 : Nat → Int32} {a5 : Nat → Int32} {a6 : Nat → Int32} {a7 : Nat → Int32} {a8 : Nat → Int32} {a9 : Nat → Int32} {a10 : Nat → Int32} {a11 : Nat → Int32} {a12 : Nat → Int32} {a13 : Nat → Int32} {a14 : Nat → Int32} {a15 : Nat → Int32} {a16 : Nat → Int32} {a17 : Nat → Int32} {k_ : Int32 → Bool} {n : Nat} {x2 : Int32} {x3 : Int32} {x5 : Int32} (h : zm_frontOf_14 k_ x1 x4 a5 n x2 x3 x5 = true) (hk : ∀ y, k_ y = true → post y) : wX_frontOf_14 post x1 x4 f0_count f0_counted f0_coupleCount a1 a2 a3 a4 a5 a6 a7 a8 a9 a10 a11 a12 a13 a14 a15 a16 a17 n x2 x3 x5 := by
  induction n generalizing x2 x3 x5 with
  | zero => exact absurd h Bool.false_ne_true
  | succ n ih => exact zq_cb_if h (fun h => zq_cb_if h (fun h => hk _ h) (fun h => hk _ h)) (fun h => zq_s_isIn h (fun _ h => zq_cb_if h (fun h => nm_e (ih h)) (fun h => zq_cb_in h (fun _ h => zq_s_onesIn h (fun _ h => nm_e (zq_cb_if h (fun h => nm_e (ih h)) (fun h => nm_e (ih h))))))))
noncomputable def zm_frontOf (k_ : Int32 → Bool) (a5 : Nat → Int32) (p0 : Int32) : Bool := (zm_onesIn (fun r_1 => (zm_frontOf_14 k_ p0 r_1 a5 40 0 (-1) 0)) p0)
theorem zq_s_frontOf {post : Int32 → Prop} {f0_count : Int32} {f0_counted : Int32} {f0_coupleCount : Int32} {a1 : Nat → Int32} {a2 : Nat → Int32} {a3 : Nat → Int32} {a4 : Nat → Int32} {a5 : Nat → Int32} {a6 : Nat → Int32} {a7 : Nat → Int32} {a8 : Nat → Int32} {a9 : Nat → Int32} {a10 : Nat → Int32} {a11 : Nat → Int32} {a12 : Nat → Int32} {a13 : Nat → Int32} {a14 : Nat → Int32} {a15 : Nat → Int32} {a16 : Nat → Int32} {a17 : Nat → Int32} {p0 : Int32} {k_ : Int32 → Bool} (h : zm_frontOf k_ a5 p0 = true) (hk : ∀ y, k_ y = true → post y) : wpX_frontOf post (f0_count, f0_counted, f0_coupleCount, a1, a2, a3, a4, a5, a6, a7, a8, a9, a10, a11, a12, a13, a14, a15, a16, a17) p0 :=
  zq_s_onesIn h (fun _ h => ⟨40, zq_s_frontOf_14 h hk⟩)
noncomputable def zm_chainFronts_77 (k_ : Int32 → Bool) (j_ : Int32 → Int32 → Bool) (x1 : Int32) (x2 : Int32) (x3 : Int32) (x4 : Int32) : Bool := (if x4 = 0 then ((fun (x2_6 : Int32) => (j_ x1 x2_6)) (x2 + 1)) else ((fun (x1_7 : Int32) => ((fun (x2_8 : Int32) => (j_ x1_7 x2_8)) (x2 + 1))) (x1 ||| ((1 : Int32) <<< (x3 &&& 31)))))
theorem zq_s_chainFronts_77 {post : Int32 → Prop} {J4 : Int32 → Int32 → Prop} {x1 : Int32} {x2 : Int32} {x3 : Int32} {x4 : Int32} {f0_count : Int32} {f0_counted : Int32} {f0_coupleCount : Int32} {a1 : Nat → Int32} {a2 : Nat → Int32} {a3 : Nat → Int32} {a4 : Nat → Int32} {a5 : Nat → Int32} {a6 : Nat → Int32} {a7 : Nat → Int32} {a8 : Nat → Int32} {a9 : Nat → Int32} {a10 : Nat → Int32} {a11 : Nat → Int32} {a12 : Nat → Int32} {a13 : Nat → Int32} {a14 : Nat → Int32} {a15 : Nat → Int32} {a16 : Nat → Int32} {a17 : Nat → Int32} {k_ : Int32 → Bool} {j_ : Int32 → Int32 → Bool} (h : zm_chainFronts_77 k_ j_ x1 x2 x3 x4 = true) (hk : ∀ y, k_ y = true → post y) (hj : ∀ y0 y1, j_ y0 y1 = true → J4 y0 y1) : wX_chainFronts_77 post J4 x1 x2 x3 x4 f0_count f0_counted f0_coupleCount a1 a2 a3 a4 a5 a6 a7 a8 a9 a10 a11 a12 a13 a14 a15 a16 a17 :=
  zq_cb_if h (fun h => nm_e (hj _ _ h)) (fun h => nm_e (nm_e (hj _ _ h)))
noncomputable def zm_chainFronts_29 (k_ : Int32 → Bool) (j_ : Int32 → Int32 → Bool) (x1 : Int32) (x2 : Int32) (x3 : Int32) (a5 : Nat → Int32) (n_ : Nat) : Int32 → Int32 → Bool := @Nat.rec (fun _ => Int32 → Int32 → Bool) (fun _ _ => false) (fun _ ih => fun x4 x5 => (if 5 ≤ x5 then (zm_chainFronts_77 k_ j_ x1 x2 x3 x4) else (if x4 = 0 then (zm_chainFronts_77 k_ j_ x1 x2 x3 x4) else (zm_isIn (fun r_10 => (if r_10 = 0 then (zq_inb x5 5 && (if (x2 &&& ((a5 x5.toNatClampNeg) ^^^ (-1))) = 0 then ((fun (x5_15 : Int32) => (ih 0 x5_15)) (x5 + 1)) else ((fun (x5_16 : Int32) => (ih 1 x5_16)) (x5 + 1)))) else ((fun (x5_12 : Int32) => (ih 1 x5_12)) (x5 + 1)))) x2 x5)))) n_
theorem zq_s_chainFronts_29 {post : Int32 → Prop} {J4 : Int32 → Int32 → Prop} {x1 : Int32} {x2 : Int32} {x3 : Int32} {f0_count : Int32} {f0_counted : Int32} {f0_coupleCount : Int32} {a1 : Nat → Int32} {a2 : Nat → Int32} {a3 : Nat → Int32} {a4 : Nat → Int32} {a5 : Nat → Int32} {a6 : Nat → Int32} {a7 : Nat → Int32} {a8 : Nat → Int32} {a9 : Nat → Int32} {a10 : Nat → Int32} {a11 : Nat → Int32} {a12 : Nat → Int32} {a13 : Nat → Int32} {a14 : Nat → Int32} {a15 : Nat → Int32} {a16 : Nat → Int32} {a17 : Nat → Int32} {k_ : Int32 → Bool} {j_ : Int32 → Int32 → Bool} {n : Nat} {x4 : Int32} {x5 : Int32} (h : zm_chainFronts_29 k_ j_ x1 x2 x3 a5 n x4 x5 = true) (hk : ∀ y, k_ y = true → post y) (hj : ∀ y0 y1, j_ y0 y1 = true → J4 y0 y1) : wX_chainFronts_29 post J4 x1 x2 x3 f0_count f0_counted f0_coupleCount a1 a2 a3 a4 a5 a6 a7 a8 a9 a10 a11 a12 a13 a14 a15 a16 a17 n x4 x5 := by
  induction n generalizing x4 x5 with
  | zero => exact absurd h Bool.false_ne_true
  | succ n ih => exact zq_cb_if h (fun h => zq_s_chainFronts_77 h hk hj) (fun h => zq_cb_if h (fun h => zq_s_chainFronts_77 h hk hj) (fun h => zq_s_isIn h (fun _ h => zq_cb_if h (fun h => zq_cb_in h (fun _ h => zq_cb_if h (fun h => nm_e (ih h)) (fun h => nm_e (ih h)))) (fun h => nm_e (ih h)))))
noncomputable def zm_chainFronts_4 (k_ : Int32 → Bool) (a5 : Nat → Int32) (n_ : Nat) : Int32 → Int32 → Bool := @Nat.rec (fun _ => Int32 → Int32 → Bool) (fun _ _ => false) (fun _ ih => fun x1 x2 => (if 31 < x2 then (k_ x1) else (zm_frontOf (fun r_2 => (if 0 ≤ r_2 then (zm_chainFronts_29 k_ ih x1 x2 r_2 a5 40 1 0) else ((fun (x2_17 : Int32) => (ih x1 x2_17)) (x2 + 1)))) a5 x2))) n_
theorem zq_s_chainFronts_4 {post : Int32 → Prop} {f0_count : Int32} {f0_counted : Int32} {f0_coupleCount : Int32} {a1 : Nat → Int32} {a2 : Nat → Int32} {a3 : Nat → Int32} {a4 : Nat → Int32} {a5 : Nat → Int32} {a6 : Nat → Int32} {a7 : Nat → Int32} {a8 : Nat → Int32} {a9 : Nat → Int32} {a10 : Nat → Int32} {a11 : Nat → Int32} {a12 : Nat → Int32} {a13 : Nat → Int32} {a14 : Nat → Int32} {a15 : Nat → Int32} {a16 : Nat → Int32} {a17 : Nat → Int32} {k_ : Int32 → Bool} {n : Nat} {x1 : Int32} {x2 : Int32} (h : zm_chainFronts_4 k_ a5 n x1 x2 = true) (hk : ∀ y, k_ y = true → post y) : wX_chainFronts_4 post f0_count f0_counted f0_coupleCount a1 a2 a3 a4 a5 a6 a7 a8 a9 a10 a11 a12 a13 a14 a15 a16 a17 n x1 x2 := by
  induction n generalizing x1 x2 with
  | zero => exact absurd h Bool.false_ne_true
  | succ n ih => exact zq_cb_if h (fun h => hk _ h) (fun h => zq_s_frontOf h (fun _ h => zq_cb_if h (fun h => ⟨40, zq_s_chainFronts_29 h hk (fun _ _ h => ih h)⟩) (fun h => nm_e (ih h))))
noncomputable def zm_chainFronts (k_ : Int32 → Bool) (a5 : Nat → Int32) : Bool := (zm_chainFronts_4 k_ a5 40 0 1)
theorem zq_s_chainFronts {post : Int32 → Prop} {f0_count : Int32} {f0_counted : Int32} {f0_coupleCount : Int32} {a1 : Nat → Int32} {a2 : Nat → Int32} {a3 : Nat → Int32} {a4 : Nat → Int32} {a5 : Nat → Int32} {a6 : Nat → Int32} {a7 : Nat → Int32} {a8 : Nat → Int32} {a9 : Nat → Int32} {a10 : Nat → Int32} {a11 : Nat → Int32} {a12 : Nat → Int32} {a13 : Nat → Int32} {a14 : Nat → Int32} {a15 : Nat → Int32} {a16 : Nat → Int32} {a17 : Nat → Int32} {k_ : Int32 → Bool} (h : zm_chainFronts k_ a5 = true) (hk : ∀ y, k_ y = true → post y) : wpX_chainFronts post (f0_count, f0_counted, f0_coupleCount, a1, a2, a3, a4, a5, a6, a7, a8, a9, a10, a11, a12, a13, a14, a15, a16, a17)  :=
  ⟨40, zq_s_chainFronts_4 h hk⟩
noncomputable def zm_uncovered_70 (k_ : Int32 → Bool) (j_ : Int32 → Int32 → Bool) (x1 : Int32) (x2 : Int32) (x3 : Int32) : Bool := (if x3 = 0 then ((fun (x2_4 : Int32) => (j_ x1 x2_4)) (x2 + 1)) else ((fun (x1_5 : Int32) => ((fun (x2_6 : Int32) => (j_ x1_5 x2_6)) (x2 + 1))) (x1 ||| ((1 : Int32) <<< (x2 &&& 31)))))
theorem zq_s_uncovered_70 {post : Int32 → Prop} {J4 : Int32 → Int32 → Prop} {x1 : Int32} {x2 : Int32} {x3 : Int32} {f0_count : Int32} {f0_counted : Int32} {f0_coupleCount : Int32} {a1 : Nat → Int32} {a2 : Nat → Int32} {a3 : Nat → Int32} {a4 : Nat → Int32} {a5 : Nat → Int32} {a6 : Nat → Int32} {a7 : Nat → Int32} {a8 : Nat → Int32} {a9 : Nat → Int32} {a10 : Nat → Int32} {a11 : Nat → Int32} {a12 : Nat → Int32} {a13 : Nat → Int32} {a14 : Nat → Int32} {a15 : Nat → Int32} {a16 : Nat → Int32} {a17 : Nat → Int32} {k_ : Int32 → Bool} {j_ : Int32 → Int32 → Bool} (h : zm_uncovered_70 k_ j_ x1 x2 x3 = true) (hk : ∀ y, k_ y = true → post y) (hj : ∀ y0 y1, j_ y0 y1 = true → J4 y0 y1) : wX_uncovered_70 post J4 x1 x2 x3 f0_count f0_counted f0_coupleCount a1 a2 a3 a4 a5 a6 a7 a8 a9 a10 a11 a12 a13 a14 a15 a16 a17 :=
  zq_cb_if h (fun h => nm_e (hj _ _ h)) (fun h => nm_e (nm_e (hj _ _ h)))
noncomputable def zm_uncovered_14 (k_ : Int32 → Bool) (j_ : Int32 → Int32 → Bool) (x1 : Int32) (x2 : Int32) (a5 : Nat → Int32) (n_ : Nat) : Int32 → Int32 → Bool := @Nat.rec (fun _ => Int32 → Int32 → Bool) (fun _ _ => false) (fun _ ih => fun x3 x4 => (if 5 ≤ x4 then (zm_uncovered_70 k_ j_ x1 x2 x3) else (if x3 = 0 then (zm_uncovered_70 k_ j_ x1 x2 x3) else (zq_inb x4 5 && (zm_isIn (fun r_9 => (if r_9 = 0 then ((fun (x4_11 : Int32) => (ih 1 x4_11)) (x4 + 1)) else (zq_inb x2 5 && (zq_inb x4 5 && (if ((a5 x2.toNatClampNeg) &&& ((a5 x4.toNatClampNeg) ^^^ (-1))) = 0 then ((fun (x4_15 : Int32) => (ih 0 x4_15)) (x4 + 1)) else ((fun (x4_16 : Int32) => (ih 1 x4_16)) (x4 + 1))))))) (a5 x4.toNatClampNeg) x2))))) n_
theorem zq_s_uncovered_14 {post : Int32 → Prop} {J4 : Int32 → Int32 → Prop} {x1 : Int32} {x2 : Int32} {f0_count : Int32} {f0_counted : Int32} {f0_coupleCount : Int32} {a1 : Nat → Int32} {a2 : Nat → Int32} {a3 : Nat → Int32} {a4 : Nat → Int32} {a5 : Nat → Int32} {a6 : Nat → Int32} {a7 : Nat → Int32} {a8 : Nat → Int32} {a9 : Nat → Int32} {a10 : Nat → Int32} {a11 : Nat → Int32} {a12 : Nat → Int32} {a13 : Nat → Int32} {a14 : Nat → Int32} {a15 : Nat → Int32} {a16 : Nat → Int32} {a17 : Nat → Int32} {k_ : Int32 → Bool} {j_ : Int32 → Int32 → Bool} {n : Nat} {x3 : Int32} {x4 : Int32} (h : zm_uncovered_14 k_ j_ x1 x2 a5 n x3 x4 = true) (hk : ∀ y, k_ y = true → post y) (hj : ∀ y0 y1, j_ y0 y1 = true → J4 y0 y1) : wX_uncovered_14 post J4 x1 x2 f0_count f0_counted f0_coupleCount a1 a2 a3 a4 a5 a6 a7 a8 a9 a10 a11 a12 a13 a14 a15 a16 a17 n x3 x4 := by
  induction n generalizing x3 x4 with
  | zero => exact absurd h Bool.false_ne_true
  | succ n ih => exact zq_cb_if h (fun h => zq_s_uncovered_70 h hk hj) (fun h => zq_cb_if h (fun h => zq_s_uncovered_70 h hk hj) (fun h => zq_cb_in h (fun _ h => zq_s_isIn h (fun _ h => zq_cb_if h (fun h => nm_e (ih h)) (fun h => zq_cb_in h (fun _ h => zq_cb_in h (fun _ h => zq_cb_if h (fun h => nm_e (ih h)) (fun h => nm_e (ih h)))))))))
noncomputable def zm_uncovered_4 (k_ : Int32 → Bool) (a5 : Nat → Int32) (n_ : Nat) : Int32 → Int32 → Bool := @Nat.rec (fun _ => Int32 → Int32 → Bool) (fun _ _ => false) (fun _ ih => fun x1 x2 => (if 5 ≤ x2 then (k_ x1) else (zm_uncovered_14 k_ ih x1 x2 a5 40 1 0))) n_
theorem zq_s_uncovered_4 {post : Int32 → Prop} {f0_count : Int32} {f0_counted : Int32} {f0_coupleCount : Int32} {a1 : Nat → Int32} {a2 : Nat → Int32} {a3 : Nat → Int32} {a4 : Nat → Int32} {a5 : Nat → Int32} {a6 : Nat → Int32} {a7 : Nat → Int32} {a8 : Nat → Int32} {a9 : Nat → Int32} {a10 : Nat → Int32} {a11 : Nat → Int32} {a12 : Nat → Int32} {a13 : Nat → Int32} {a14 : Nat → Int32} {a15 : Nat → Int32} {a16 : Nat → Int32} {a17 : Nat → Int32} {k_ : Int32 → Bool} {n : Nat} {x1 : Int32} {x2 : Int32} (h : zm_uncovered_4 k_ a5 n x1 x2 = true) (hk : ∀ y, k_ y = true → post y) : wX_uncovered_4 post f0_count f0_counted f0_coupleCount a1 a2 a3 a4 a5 a6 a7 a8 a9 a10 a11 a12 a13 a14 a15 a16 a17 n x1 x2 := by
  induction n generalizing x1 x2 with
  | zero => exact absurd h Bool.false_ne_true
  | succ n ih => exact zq_cb_if h (fun h => hk _ h) (fun h => ⟨40, zq_s_uncovered_14 h hk (fun _ _ h => ih h)⟩)
noncomputable def zm_uncovered (k_ : Int32 → Bool) (a5 : Nat → Int32) : Bool := (zm_uncovered_4 k_ a5 40 0 0)
theorem zq_s_uncovered {post : Int32 → Prop} {f0_count : Int32} {f0_counted : Int32} {f0_coupleCount : Int32} {a1 : Nat → Int32} {a2 : Nat → Int32} {a3 : Nat → Int32} {a4 : Nat → Int32} {a5 : Nat → Int32} {a6 : Nat → Int32} {a7 : Nat → Int32} {a8 : Nat → Int32} {a9 : Nat → Int32} {a10 : Nat → Int32} {a11 : Nat → Int32} {a12 : Nat → Int32} {a13 : Nat → Int32} {a14 : Nat → Int32} {a15 : Nat → Int32} {a16 : Nat → Int32} {a17 : Nat → Int32} {k_ : Int32 → Bool} (h : zm_uncovered k_ a5 = true) (hk : ∀ y, k_ y = true → post y) : wpX_uncovered post (f0_count, f0_counted, f0_coupleCount, a1, a2, a3, a4, a5, a6, a7, a8, a9, a10, a11, a12, a13, a14, a15, a16, a17)  :=
  ⟨40, zq_s_uncovered_4 h hk⟩
noncomputable def zm_unreturned_95 (k_ : Int32 → Bool) (j_ : Int32 → Int32 → Bool) (x1 : Int32) (x2 : Int32) (x3 : Int32) : Bool := (if x3 = 0 then ((fun (x2_60 : Int32) => (j_ x1 x2_60)) (x2 + 1)) else ((fun (x1_61 : Int32) => ((fun (x2_62 : Int32) => (j_ x1_61 x2_62)) (x2 + 1))) (x1 ||| ((1 : Int32) <<< (x2 &&& 31)))))
theorem zq_s_unreturned_95 {post : Int32 → St2 → Prop} {J33 : Int32 → Int32 → Prop} {x1 : Int32} {x2 : Int32} {x3 : Int32} {f0_count : Int32} {f0_counted : Int32} {f0_coupleCount : Int32} {am261 : Nat → Int32} {am262 : Nat → Int32} {am263 : Nat → Int32} {am264 : Nat → Int32} {am265 : Nat → Int32} {am266 : Nat → Int32} {am267 : Nat → Int32} {am268 : Nat → Int32} {am269 : Nat → Int32} {am2610 : Nat → Int32} {am2611 : Nat → Int32} {am2612 : Nat → Int32} {am2613 : Nat → Int32} {am2614 : Nat → Int32} {am2615 : Nat → Int32} {am2616 : Nat → Int32} {am2617 : Nat → Int32} {k_ : Int32 → Bool} {j_ : Int32 → Int32 → Bool} (h : zm_unreturned_95 k_ j_ x1 x2 x3 = true) (hk : ∀ y, k_ y = true → post y (f0_count, f0_counted, f0_coupleCount, am261, am262, am263, am264, am265, am266, am267, am268, am269, am2610, am2611, am2612, am2613, am2614, am2615, am2616, am2617)) (hj : ∀ y0 y1, j_ y0 y1 = true → J33 y0 y1) : wX_unreturned_95 post J33 x1 x2 x3 f0_count f0_counted f0_coupleCount am261 am262 am263 am264 am265 am266 am267 am268 am269 am2610 am2611 am2612 am2613 am2614 am2615 am2616 am2617 :=
  zq_cb_if h (fun h => nm_e (hj _ _ h)) (fun h => nm_e (nm_e (hj _ _ h)))
noncomputable def zm_unreturned_43 (k_ : Int32 → Bool) (j_ : Int32 → Int32 → Bool) (x1 : Int32) (x2 : Int32) (am269 : Nat → Int32) (n_ : Nat) : Int32 → Int32 → Bool := @Nat.rec (fun _ => Int32 → Int32 → Bool) (fun _ _ => false) (fun _ ih => fun x3 x4 => (if 5 ≤ x4 then (zm_unreturned_95 k_ j_ x1 x2 x3) else (if x3 = 0 then (zm_unreturned_95 k_ j_ x1 x2 x3) else (zq_inb x4 5 && (zm_isIn (fun r_65 => (if r_65 = 0 then ((fun (x4_67 : Int32) => (ih 1 x4_67)) (x4 + 1)) else (zq_inb x2 5 && (zm_isIn (fun r_69 => (if r_69 = 0 then ((fun (x4_71 : Int32) => (ih 0 x4_71)) (x4 + 1)) else ((fun (x4_72 : Int32) => (ih 1 x4_72)) (x4 + 1)))) (am269 x2.toNatClampNeg) x4)))) (am269 x4.toNatClampNeg) x2))))) n_
theorem zq_s_unreturned_43 {post : Int32 → St2 → Prop} {J33 : Int32 → Int32 → Prop} {x1 : Int32} {x2 : Int32} {f0_count : Int32} {f0_counted : Int32} {f0_coupleCount : Int32} {am261 : Nat → Int32} {am262 : Nat → Int32} {am263 : Nat → Int32} {am264 : Nat → Int32} {am265 : Nat → Int32} {am266 : Nat → Int32} {am267 : Nat → Int32} {am268 : Nat → Int32} {am269 : Nat → Int32} {am2610 : Nat → Int32} {am2611 : Nat → Int32} {am2612 : Nat → Int32} {am2613 : Nat → Int32} {am2614 : Nat → Int32} {am2615 : Nat → Int32} {am2616 : Nat → Int32} {am2617 : Nat → Int32} {k_ : Int32 → Bool} {j_ : Int32 → Int32 → Bool} {b_am269 : Nat → Int32} {n : Nat} {x3 : Int32} {x4 : Int32} (h : zm_unreturned_43 k_ j_ x1 x2 b_am269 n x3 x4 = true) (hk : ∀ y, k_ y = true → post y (f0_count, f0_counted, f0_coupleCount, am261, am262, am263, am264, am265, am266, am267, am268, am269, am2610, am2611, am2612, am2613, am2614, am2615, am2616, am2617)) (hj : ∀ y0 y1, j_ y0 y1 = true → J33 y0 y1) (hg_am269 : ∀ k, k < 5 → am269 k = b_am269 k) : wX_unreturned_43 post J33 x1 x2 f0_count f0_counted f0_coupleCount am261 am262 am263 am264 am265 am266 am267 am268 am269 am2610 am2611 am2612 am2613 am2614 am2615 am2616 am2617 n x3 x4 := by
  induction n generalizing x3 x4 with
  | zero => exact absurd h Bool.false_ne_true
  | succ n ih => exact zq_cb_if h (fun h => zq_s_unreturned_95 h hk hj) (fun h => zq_cb_if h (fun h => zq_s_unreturned_95 h hk hj) (fun h => zq_cb_in h (fun g h => by rw [zq_rd g hg_am269]; exact zq_s_isIn h (fun _ h => zq_cb_if h (fun h => nm_e (ih h)) (fun h => zq_cb_in h (fun g h => by rw [zq_rd g hg_am269]; exact zq_s_isIn h (fun _ h => zq_cb_if h (fun h => nm_e (ih h)) (fun h => nm_e (ih h)))))))))
noncomputable def zm_unreturned_33 (k_ : Int32 → Bool) (am269 : Nat → Int32) (n_ : Nat) : Int32 → Int32 → Bool := @Nat.rec (fun _ => Int32 → Int32 → Bool) (fun _ _ => false) (fun _ ih => fun x1 x2 => (if 5 ≤ x2 then (k_ x1) else (zm_unreturned_43 k_ ih x1 x2 am269 40 1 0))) n_
theorem zq_s_unreturned_33 {post : Int32 → St2 → Prop} {f0_count : Int32} {f0_counted : Int32} {f0_coupleCount : Int32} {am261 : Nat → Int32} {am262 : Nat → Int32} {am263 : Nat → Int32} {am264 : Nat → Int32} {am265 : Nat → Int32} {am266 : Nat → Int32} {am267 : Nat → Int32} {am268 : Nat → Int32} {am269 : Nat → Int32} {am2610 : Nat → Int32} {am2611 : Nat → Int32} {am2612 : Nat → Int32} {am2613 : Nat → Int32} {am2614 : Nat → Int32} {am2615 : Nat → Int32} {am2616 : Nat → Int32} {am2617 : Nat → Int32} {k_ : Int32 → Bool} {b_am269 : Nat → Int32} {n : Nat} {x1 : Int32} {x2 : Int32} (h : zm_unreturned_33 k_ b_am269 n x1 x2 = true) (hk : ∀ y, k_ y = true → post y (f0_count, f0_counted, f0_coupleCount, am261, am262, am263, am264, am265, am266, am267, am268, am269, am2610, am2611, am2612, am2613, am2614, am2615, am2616, am2617)) (hg_am269 : ∀ k, k < 5 → am269 k = b_am269 k) : wX_unreturned_33 post f0_count f0_counted f0_coupleCount am261 am262 am263 am264 am265 am266 am267 am268 am269 am2610 am2611 am2612 am2613 am2614 am2615 am2616 am2617 n x1 x2 := by
  induction n generalizing x1 x2 with
  | zero => exact absurd h Bool.false_ne_true
  | succ n ih => exact zq_cb_if h (fun h => hk _ h) (fun h => ⟨40, zq_s_unreturned_43 h hk (fun _ _ h => ih h) hg_am269⟩)
noncomputable def zm_smallestSet_79 (k_ : Int32 → Bool) (j_ : Int32 → Int32 → Bool) (x1 : Int32) (x2 : Int32) (x3 : Int32) : Bool := (if x3 = 0 then ((fun (x2_7 : Int32) => (j_ x1 x2_7)) (x2 + 1)) else ((fun (x2_8 : Int32) => (j_ x2 x2_8)) (x2 + 1)))
theorem zq_s_smallestSet_79 {post : Int32 → Prop} {J5 : Int32 → Int32 → Prop} {x1 : Int32} {x2 : Int32} {x3 : Int32} {f0_count : Int32} {f0_counted : Int32} {f0_coupleCount : Int32} {a1 : Nat → Int32} {a2 : Nat → Int32} {a3 : Nat → Int32} {a4 : Nat → Int32} {a5 : Nat → Int32} {a6 : Nat → Int32} {a7 : Nat → Int32} {a8 : Nat → Int32} {a9 : Nat → Int32} {a10 : Nat → Int32} {a11 : Nat → Int32} {a12 : Nat → Int32} {a13 : Nat → Int32} {a14 : Nat → Int32} {a15 : Nat → Int32} {a16 : Nat → Int32} {a17 : Nat → Int32} {k_ : Int32 → Bool} {j_ : Int32 → Int32 → Bool} (h : zm_smallestSet_79 k_ j_ x1 x2 x3 = true) (hk : ∀ y, k_ y = true → post y) (hj : ∀ y0 y1, j_ y0 y1 = true → J5 y0 y1) : wX_smallestSet_79 post J5 x1 x2 x3 f0_count f0_counted f0_coupleCount a1 a2 a3 a4 a5 a6 a7 a8 a9 a10 a11 a12 a13 a14 a15 a16 a17 :=
  zq_cb_if h (fun h => nm_e (hj _ _ h)) (fun h => nm_e (hj _ _ h))
noncomputable def zm_smallestSet_33 (k_ : Int32 → Bool) (j_ : Int32 → Int32 → Bool) (x1 : Int32) (x2 : Int32) (a5 : Nat → Int32) (n_ : Nat) : Int32 → Int32 → Bool := @Nat.rec (fun _ => Int32 → Int32 → Bool) (fun _ _ => false) (fun _ ih => fun x3 x4 => (if 5 ≤ x4 then (zm_smallestSet_79 k_ j_ x1 x2 x3) else (if x3 = 0 then (zm_smallestSet_79 k_ j_ x1 x2 x3) else (zm_isIn (fun r_10 => (if r_10 = 0 then ((fun (x4_12 : Int32) => (ih 1 x4_12)) (x4 + 1)) else (zq_inb x4 5 && (if ((a5 x4.toNatClampNeg) ||| x2) = 31 then ((fun (x4_16 : Int32) => (ih 1 x4_16)) (x4 + 1)) else ((fun (x4_15 : Int32) => (ih 0 x4_15)) (x4 + 1)))))) x2 x4)))) n_
theorem zq_s_smallestSet_33 {post : Int32 → Prop} {J5 : Int32 → Int32 → Prop} {x1 : Int32} {x2 : Int32} {f0_count : Int32} {f0_counted : Int32} {f0_coupleCount : Int32} {a1 : Nat → Int32} {a2 : Nat → Int32} {a3 : Nat → Int32} {a4 : Nat → Int32} {a5 : Nat → Int32} {a6 : Nat → Int32} {a7 : Nat → Int32} {a8 : Nat → Int32} {a9 : Nat → Int32} {a10 : Nat → Int32} {a11 : Nat → Int32} {a12 : Nat → Int32} {a13 : Nat → Int32} {a14 : Nat → Int32} {a15 : Nat → Int32} {a16 : Nat → Int32} {a17 : Nat → Int32} {k_ : Int32 → Bool} {j_ : Int32 → Int32 → Bool} {n : Nat} {x3 : Int32} {x4 : Int32} (h : zm_smallestSet_33 k_ j_ x1 x2 a5 n x3 x4 = true) (hk : ∀ y, k_ y = true → post y) (hj : ∀ y0 y1, j_ y0 y1 = true → J5 y0 y1) : wX_smallestSet_33 post J5 x1 x2 f0_count f0_counted f0_coupleCount a1 a2 a3 a4 a5 a6 a7 a8 a9 a10 a11 a12 a13 a14 a15 a16 a17 n x3 x4 := by
  induction n generalizing x3 x4 with
  | zero => exact absurd h Bool.false_ne_true
  | succ n ih => exact zq_cb_if h (fun h => zq_s_smallestSet_79 h hk hj) (fun h => zq_cb_if h (fun h => zq_s_smallestSet_79 h hk hj) (fun h => zq_s_isIn h (fun _ h => zq_cb_if h (fun h => nm_e (ih h)) (fun h => zq_cb_in h (fun _ h => zq_cb_if h (fun h => nm_e (ih h)) (fun h => nm_e (ih h)))))))
noncomputable def zm_smallestSet_5 (k_ : Int32 → Bool) (a5 : Nat → Int32) (n_ : Nat) : Int32 → Int32 → Bool := @Nat.rec (fun _ => Int32 → Int32 → Bool) (fun _ _ => false) (fun _ ih => fun x1 x2 => (if 31 ≤ x2 then (k_ x1) else (zm_onesIn (fun r_2 => (zm_onesIn (fun r_3 => (if r_3 ≤ r_2 then (zm_smallestSet_33 k_ ih x1 x2 a5 40 0 0) else (zm_smallestSet_33 k_ ih x1 x2 a5 40 1 0))) x1)) x2))) n_
theorem zq_s_smallestSet_5 {post : Int32 → Prop} {f0_count : Int32} {f0_counted : Int32} {f0_coupleCount : Int32} {a1 : Nat → Int32} {a2 : Nat → Int32} {a3 : Nat → Int32} {a4 : Nat → Int32} {a5 : Nat → Int32} {a6 : Nat → Int32} {a7 : Nat → Int32} {a8 : Nat → Int32} {a9 : Nat → Int32} {a10 : Nat → Int32} {a11 : Nat → Int32} {a12 : Nat → Int32} {a13 : Nat → Int32} {a14 : Nat → Int32} {a15 : Nat → Int32} {a16 : Nat → Int32} {a17 : Nat → Int32} {k_ : Int32 → Bool} {n : Nat} {x1 : Int32} {x2 : Int32} (h : zm_smallestSet_5 k_ a5 n x1 x2 = true) (hk : ∀ y, k_ y = true → post y) : wX_smallestSet_5 post f0_count f0_counted f0_coupleCount a1 a2 a3 a4 a5 a6 a7 a8 a9 a10 a11 a12 a13 a14 a15 a16 a17 n x1 x2 := by
  induction n generalizing x1 x2 with
  | zero => exact absurd h Bool.false_ne_true
  | succ n ih => exact zq_cb_if h (fun h => hk _ h) (fun h => zq_s_onesIn h (fun _ h => zq_s_onesIn h (fun _ h => zq_cb_if h (fun h => ⟨40, zq_s_smallestSet_33 h hk (fun _ _ h => ih h)⟩) (fun h => ⟨40, zq_s_smallestSet_33 h hk (fun _ _ h => ih h)⟩))))
noncomputable def zm_smallestSet (k_ : Int32 → Bool) (a5 : Nat → Int32) : Bool := (zm_smallestSet_5 k_ a5 40 31 1)
theorem zq_s_smallestSet {post : Int32 → Prop} {f0_count : Int32} {f0_counted : Int32} {f0_coupleCount : Int32} {a1 : Nat → Int32} {a2 : Nat → Int32} {a3 : Nat → Int32} {a4 : Nat → Int32} {a5 : Nat → Int32} {a6 : Nat → Int32} {a7 : Nat → Int32} {a8 : Nat → Int32} {a9 : Nat → Int32} {a10 : Nat → Int32} {a11 : Nat → Int32} {a12 : Nat → Int32} {a13 : Nat → Int32} {a14 : Nat → Int32} {a15 : Nat → Int32} {a16 : Nat → Int32} {a17 : Nat → Int32} {k_ : Int32 → Bool} (h : zm_smallestSet k_ a5 = true) (hk : ∀ y, k_ y = true → post y) : wpX_smallestSet post (f0_count, f0_counted, f0_coupleCount, a1, a2, a3, a4, a5, a6, a7, a8, a9, a10, a11, a12, a13, a14, a15, a16, a17)  :=
  ⟨40, zq_s_smallestSet_5 h hk⟩
noncomputable def zm_unbeaten_5 (k_ : Int32 → Bool) (x1 : Int32) (f0_coupleCount : Int32) (a11 : Nat → Int32) (n_ : Nat) : Int32 → Int32 → Bool := @Nat.rec (fun _ => Int32 → Int32 → Bool) (fun _ _ => false) (fun _ ih => fun x2 x3 => (if f0_coupleCount ≤ x3 then (k_ x2) else (if ((x1 >>> (x3 &&& 31)) &&& 1) = 0 then ((fun (x3_3 : Int32) => (ih x2 x3_3)) (x3 + 1)) else (zq_inb x3 10 && ((fun (x2_5 : Int32) => ((fun (x3_6 : Int32) => (ih x2_5 x3_6)) (x3 + 1))) (x2 &&& (((1 : Int32) <<< ((a11 x3.toNatClampNeg) &&& 31)) ^^^ (-1)))))))) n_
theorem zq_s_unbeaten_5 {post : Int32 → Prop} {x1 : Int32} {f0_count : Int32} {f0_counted : Int32} {f0_coupleCount : Int32} {a1 : Nat → Int32} {a2 : Nat → Int32} {a3 : Nat → Int32} {a4 : Nat → Int32} {a5 : Nat → Int32} {a6 : Nat → Int32} {a7 : Nat → Int32} {a8 : Nat → Int32} {a9 : Nat → Int32} {a10 : Nat → Int32} {a11 : Nat → Int32} {a12 : Nat → Int32} {a13 : Nat → Int32} {a14 : Nat → Int32} {a15 : Nat → Int32} {a16 : Nat → Int32} {a17 : Nat → Int32} {k_ : Int32 → Bool} {b_a11 : Nat → Int32} {n : Nat} {x2 : Int32} {x3 : Int32} (h : zm_unbeaten_5 k_ x1 f0_coupleCount b_a11 n x2 x3 = true) (hk : ∀ y, k_ y = true → post y) (hg_a11 : ∀ k, k < 10 → a11 k = b_a11 k) : wX_unbeaten_5 post x1 f0_count f0_counted f0_coupleCount a1 a2 a3 a4 a5 a6 a7 a8 a9 a10 a11 a12 a13 a14 a15 a16 a17 n x2 x3 := by
  induction n generalizing x2 x3 with
  | zero => exact absurd h Bool.false_ne_true
  | succ n ih => exact zq_cb_if h (fun h => hk _ h) (fun h => zq_cb_if h (fun h => nm_e (ih h)) (fun h => zq_cb_in h (fun g h => by rw [zq_rd g hg_a11]; exact nm_e (nm_e (ih h)))))
noncomputable def zm_unbeaten (k_ : Int32 → Bool) (f0_coupleCount : Int32) (a11 : Nat → Int32) (p0 : Int32) : Bool := (zm_unbeaten_5 k_ p0 f0_coupleCount a11 40 31 0)
theorem zq_s_unbeaten {post : Int32 → Prop} {f0_count : Int32} {f0_counted : Int32} {f0_coupleCount : Int32} {a1 : Nat → Int32} {a2 : Nat → Int32} {a3 : Nat → Int32} {a4 : Nat → Int32} {a5 : Nat → Int32} {a6 : Nat → Int32} {a7 : Nat → Int32} {a8 : Nat → Int32} {a9 : Nat → Int32} {a10 : Nat → Int32} {a11 : Nat → Int32} {a12 : Nat → Int32} {a13 : Nat → Int32} {a14 : Nat → Int32} {a15 : Nat → Int32} {a16 : Nat → Int32} {a17 : Nat → Int32} {p0 : Int32} {k_ : Int32 → Bool} {b_a11 : Nat → Int32} (h : zm_unbeaten k_ f0_coupleCount b_a11 p0 = true) (hk : ∀ y, k_ y = true → post y) (hg_a11 : ∀ k, k < 10 → a11 k = b_a11 k) : wpX_unbeaten post (f0_count, f0_counted, f0_coupleCount, a1, a2, a3, a4, a5, a6, a7, a8, a9, a10, a11, a12, a13, a14, a15, a16, a17) p0 :=
  ⟨40, zq_s_unbeaten_5 h hk hg_a11⟩
noncomputable def zm_byStrength_65 (k_ : Int32 → Bool) (j_ : Int32 → Int32 → Bool) (x1 : Int32) (x2 : Int32) (x3 : Int32) : Bool := (if x3 = 0 then ((fun (x2_59 : Int32) => (j_ x1 x2_59)) (x2 + 1)) else ((fun (x1_60 : Int32) => ((fun (x2_61 : Int32) => (j_ x1_60 x2_61)) (x2 + 1))) (x1 ||| ((1 : Int32) <<< (x2 &&& 31)))))
theorem zq_s_byStrength_65 {post : Int32 → St2 → Prop} {J8 : Int32 → Int32 → Prop} {x1 : Int32} {x2 : Int32} {x3 : Int32} {f0_count : Int32} {f0_counted : Int32} {f0_coupleCount : Int32} {am11 : Nat → Int32} {am12 : Nat → Int32} {am13 : Nat → Int32} {am14 : Nat → Int32} {am15 : Nat → Int32} {am16 : Nat → Int32} {am17 : Nat → Int32} {am18 : Nat → Int32} {am19 : Nat → Int32} {am110 : Nat → Int32} {am111 : Nat → Int32} {am112 : Nat → Int32} {am113 : Nat → Int32} {am114 : Nat → Int32} {am115 : Nat → Int32} {am116 : Nat → Int32} {am117 : Nat → Int32} {k_ : Int32 → Bool} {j_ : Int32 → Int32 → Bool} (h : zm_byStrength_65 k_ j_ x1 x2 x3 = true) (hk : ∀ y, k_ y = true → post y (f0_count, f0_counted, f0_coupleCount, am11, am12, am13, am14, am15, am16, am17, am18, am19, am110, am111, am112, am113, am114, am115, am116, am117)) (hj : ∀ y0 y1, j_ y0 y1 = true → J8 y0 y1) : wX_byStrength_65 post J8 x1 x2 x3 f0_count f0_counted f0_coupleCount am11 am12 am13 am14 am15 am16 am17 am18 am19 am110 am111 am112 am113 am114 am115 am116 am117 :=
  zq_cb_if h (fun h => nm_e (hj _ _ h)) (fun h => nm_e (nm_e (hj _ _ h)))
noncomputable def zm_byStrength_18 (k_ : Int32 → Bool) (j_ : Int32 → Int32 → Bool) (x1 : Int32) (x2 : Int32) (am18 : Nat → Int32) (n_ : Nat) : Int32 → Int32 → Bool := @Nat.rec (fun _ => Int32 → Int32 → Bool) (fun _ _ => false) (fun _ ih => fun x3 x4 => (if 5 ≤ x4 then (zm_byStrength_65 k_ j_ x1 x2 x3) else (if x3 = 0 then (zm_byStrength_65 k_ j_ x1 x2 x3) else (zq_inb ((5 * x2) + x4) 25 && (zq_inb ((5 * x4) + x2) 25 && (if (am18 ((5 * x2) + x4).toNatClampNeg) < (am18 ((5 * x4) + x2).toNatClampNeg) then ((fun (x4_66 : Int32) => (ih 0 x4_66)) (x4 + 1)) else ((fun (x4_67 : Int32) => (ih 1 x4_67)) (x4 + 1)))))))) n_
theorem zq_s_byStrength_18 {post : Int32 → St2 → Prop} {J8 : Int32 → Int32 → Prop} {x1 : Int32} {x2 : Int32} {f0_count : Int32} {f0_counted : Int32} {f0_coupleCount : Int32} {am11 : Nat → Int32} {am12 : Nat → Int32} {am13 : Nat → Int32} {am14 : Nat → Int32} {am15 : Nat → Int32} {am16 : Nat → Int32} {am17 : Nat → Int32} {am18 : Nat → Int32} {am19 : Nat → Int32} {am110 : Nat → Int32} {am111 : Nat → Int32} {am112 : Nat → Int32} {am113 : Nat → Int32} {am114 : Nat → Int32} {am115 : Nat → Int32} {am116 : Nat → Int32} {am117 : Nat → Int32} {k_ : Int32 → Bool} {j_ : Int32 → Int32 → Bool} {b_am18 : Nat → Int32} {n : Nat} {x3 : Int32} {x4 : Int32} (h : zm_byStrength_18 k_ j_ x1 x2 b_am18 n x3 x4 = true) (hk : ∀ y, k_ y = true → post y (f0_count, f0_counted, f0_coupleCount, am11, am12, am13, am14, am15, am16, am17, am18, am19, am110, am111, am112, am113, am114, am115, am116, am117)) (hj : ∀ y0 y1, j_ y0 y1 = true → J8 y0 y1) (hg_am18 : ∀ k, k < 25 → am18 k = b_am18 k) : wX_byStrength_18 post J8 x1 x2 f0_count f0_counted f0_coupleCount am11 am12 am13 am14 am15 am16 am17 am18 am19 am110 am111 am112 am113 am114 am115 am116 am117 n x3 x4 := by
  induction n generalizing x3 x4 with
  | zero => exact absurd h Bool.false_ne_true
  | succ n ih => exact zq_cb_if h (fun h => zq_s_byStrength_65 h hk hj) (fun h => zq_cb_if h (fun h => zq_s_byStrength_65 h hk hj) (fun h => zq_cb_in h (fun g h => by rw [zq_rd g hg_am18]; exact zq_cb_in h (fun g h => by rw [zq_rd g hg_am18]; exact zq_cb_if h (fun h => nm_e (ih h)) (fun h => nm_e (ih h))))))
noncomputable def zm_byStrength_8 (k_ : Int32 → Bool) (am18 : Nat → Int32) (n_ : Nat) : Int32 → Int32 → Bool := @Nat.rec (fun _ => Int32 → Int32 → Bool) (fun _ _ => false) (fun _ ih => fun x1 x2 => (if 5 ≤ x2 then (k_ x1) else (zm_byStrength_18 k_ ih x1 x2 am18 40 1 0))) n_
theorem zq_s_byStrength_8 {post : Int32 → St2 → Prop} {f0_count : Int32} {f0_counted : Int32} {f0_coupleCount : Int32} {am11 : Nat → Int32} {am12 : Nat → Int32} {am13 : Nat → Int32} {am14 : Nat → Int32} {am15 : Nat → Int32} {am16 : Nat → Int32} {am17 : Nat → Int32} {am18 : Nat → Int32} {am19 : Nat → Int32} {am110 : Nat → Int32} {am111 : Nat → Int32} {am112 : Nat → Int32} {am113 : Nat → Int32} {am114 : Nat → Int32} {am115 : Nat → Int32} {am116 : Nat → Int32} {am117 : Nat → Int32} {k_ : Int32 → Bool} {b_am18 : Nat → Int32} {n : Nat} {x1 : Int32} {x2 : Int32} (h : zm_byStrength_8 k_ b_am18 n x1 x2 = true) (hk : ∀ y, k_ y = true → post y (f0_count, f0_counted, f0_coupleCount, am11, am12, am13, am14, am15, am16, am17, am18, am19, am110, am111, am112, am113, am114, am115, am116, am117)) (hg_am18 : ∀ k, k < 25 → am18 k = b_am18 k) : wX_byStrength_8 post f0_count f0_counted f0_coupleCount am11 am12 am13 am14 am15 am16 am17 am18 am19 am110 am111 am112 am113 am114 am115 am116 am117 n x1 x2 := by
  induction n generalizing x1 x2 with
  | zero => exact absurd h Bool.false_ne_true
  | succ n ih => exact zq_cb_if h (fun h => hk _ h) (fun h => ⟨40, zq_s_byStrength_18 h hk (fun _ _ h => ih h) hg_am18⟩)
noncomputable def zm_pointsOf_5 (k_ : Int32 → Bool) (x1 : Int32) (x2 : Int32) (a3 : Nat → Int32) (n_ : Nat) : Int32 → Int32 → Bool := @Nat.rec (fun _ => Int32 → Int32 → Bool) (fun _ _ => false) (fun _ ih => fun x3 x4 => (if 5 ≤ x4 then (k_ x3) else (zm_isIn (fun r_2 => (if r_2 = 0 then ((fun (x4_4 : Int32) => (ih x3 x4_4)) (x4 + 1)) else (zq_inb ((5 * x1) + x4) 25 && (zm_onesIn (fun r_6 => ((fun (x3_7 : Int32) => ((fun (x4_8 : Int32) => (ih x3_7 x4_8)) (x4 + 1))) (x3 + r_6))) (a3 ((5 * x1) + x4).toNatClampNeg))))) x2 x4))) n_
theorem zq_s_pointsOf_5 {post : Int32 → Prop} {x1 : Int32} {x2 : Int32} {f0_count : Int32} {f0_counted : Int32} {f0_coupleCount : Int32} {a1 : Nat → Int32} {a2 : Nat → Int32} {a3 : Nat → Int32} {a4 : Nat → Int32} {a5 : Nat → Int32} {a6 : Nat → Int32} {a7 : Nat → Int32} {a8 : Nat → Int32} {a9 : Nat → Int32} {a10 : Nat → Int32} {a11 : Nat → Int32} {a12 : Nat → Int32} {a13 : Nat → Int32} {a14 : Nat → Int32} {a15 : Nat → Int32} {a16 : Nat → Int32} {a17 : Nat → Int32} {k_ : Int32 → Bool} {n : Nat} {x3 : Int32} {x4 : Int32} (h : zm_pointsOf_5 k_ x1 x2 a3 n x3 x4 = true) (hk : ∀ y, k_ y = true → post y) : wX_pointsOf_5 post x1 x2 f0_count f0_counted f0_coupleCount a1 a2 a3 a4 a5 a6 a7 a8 a9 a10 a11 a12 a13 a14 a15 a16 a17 n x3 x4 := by
  induction n generalizing x3 x4 with
  | zero => exact absurd h Bool.false_ne_true
  | succ n ih => exact zq_cb_if h (fun h => hk _ h) (fun h => zq_s_isIn h (fun _ h => zq_cb_if h (fun h => nm_e (ih h)) (fun h => zq_cb_in h (fun _ h => zq_s_onesIn h (fun _ h => nm_e (nm_e (ih h)))))))
noncomputable def zm_pointsOf (k_ : Int32 → Bool) (a3 : Nat → Int32) (p0 : Int32) (p1 : Int32) : Bool := (zm_pointsOf_5 k_ p0 p1 a3 40 0 0)
theorem zq_s_pointsOf {post : Int32 → Prop} {f0_count : Int32} {f0_counted : Int32} {f0_coupleCount : Int32} {a1 : Nat → Int32} {a2 : Nat → Int32} {a3 : Nat → Int32} {a4 : Nat → Int32} {a5 : Nat → Int32} {a6 : Nat → Int32} {a7 : Nat → Int32} {a8 : Nat → Int32} {a9 : Nat → Int32} {a10 : Nat → Int32} {a11 : Nat → Int32} {a12 : Nat → Int32} {a13 : Nat → Int32} {a14 : Nat → Int32} {a15 : Nat → Int32} {a16 : Nat → Int32} {a17 : Nat → Int32} {p0 : Int32} {p1 : Int32} {k_ : Int32 → Bool} (h : zm_pointsOf k_ a3 p0 p1 = true) (hk : ∀ y, k_ y = true → post y) : wpX_pointsOf post (f0_count, f0_counted, f0_coupleCount, a1, a2, a3, a4, a5, a6, a7, a8, a9, a10, a11, a12, a13, a14, a15, a16, a17) p0 p1 :=
  ⟨40, zq_s_pointsOf_5 h hk⟩
noncomputable def zm_extremeCount_13 (k_ : Int32 → Bool) (x1 : Int32) (x2 : Int32) (x3 : Int32) (a3 : Nat → Int32) (n_ : Nat) : Int32 → Int32 → Bool := @Nat.rec (fun _ => Int32 → Int32 → Bool) (fun _ _ => false) (fun _ ih => fun x4 x5 => (if 5 ≤ x5 then (zm_onesIn (fun r_3 => (k_ r_3)) x4) else (if x5 = x2 then ((fun (x5_5 : Int32) => (ih x4 x5_5)) (x5 + 1)) else (zm_isIn (fun r_6 => (if r_6 = 0 then ((fun (x5_8 : Int32) => (ih x4 x5_8)) (x5 + 1)) else (if x3 = 0 then (zq_inb ((5 * x5) + x2) 25 && ((fun (x4_11 : Int32) => ((fun (x5_12 : Int32) => (ih x4_11 x5_12)) (x5 + 1))) (x4 &&& (a3 ((5 * x5) + x2).toNatClampNeg)))) else (zq_inb ((5 * x2) + x5) 25 && ((fun (x4_14 : Int32) => ((fun (x5_15 : Int32) => (ih x4_14 x5_15)) (x5 + 1))) (x4 &&& (a3 ((5 * x2) + x5).toNatClampNeg))))))) x1 x5)))) n_
theorem zq_s_extremeCount_13 {post : Int32 → Prop} {x1 : Int32} {x2 : Int32} {x3 : Int32} {f0_count : Int32} {f0_counted : Int32} {f0_coupleCount : Int32} {a1 : Nat → Int32} {a2 : Nat → Int32} {a3 : Nat → Int32} {a4 : Nat → Int32} {a5 : Nat → Int32} {a6 : Nat → Int32} {a7 : Nat → Int32} {a8 : Nat → Int32} {a9 : Nat → Int32} {a10 : Nat → Int32} {a11 : Nat → Int32} {a12 : Nat → Int32} {a13 : Nat → Int32} {a14 : Nat → Int32} {a15 : Nat → Int32} {a16 : Nat → Int32} {a17 : Nat → Int32} {k_ : Int32 → Bool} {n : Nat} {x4 : Int32} {x5 : Int32} (h : zm_extremeCount_13 k_ x1 x2 x3 a3 n x4 x5 = true) (hk : ∀ y, k_ y = true → post y) : wX_extremeCount_13 post x1 x2 x3 f0_count f0_counted f0_coupleCount a1 a2 a3 a4 a5 a6 a7 a8 a9 a10 a11 a12 a13 a14 a15 a16 a17 n x4 x5 := by
  induction n generalizing x4 x5 with
  | zero => exact absurd h Bool.false_ne_true
  | succ n ih => exact zq_cb_if h (fun h => zq_s_onesIn h (fun _ h => hk _ h)) (fun h => zq_cb_if h (fun h => nm_e (ih h)) (fun h => zq_s_isIn h (fun _ h => zq_cb_if h (fun h => nm_e (ih h)) (fun h => zq_cb_if h (fun h => zq_cb_in h (fun _ h => nm_e (nm_e (ih h)))) (fun h => zq_cb_in h (fun _ h => nm_e (nm_e (ih h))))))))
noncomputable def zm_extremeCount (k_ : Int32 → Bool) (f0_count : Int32) (a3 : Nat → Int32) (p0 : Int32) (p1 : Int32) (p2 : Int32) : Bool := ((fun (x4_1 : Int32) => (zm_extremeCount_13 k_ p0 p1 p2 a3 40 x4_1 0)) (((1 : Int32) <<< (f0_count &&& 31)) - 1))
theorem zq_s_extremeCount {post : Int32 → Prop} {f0_count : Int32} {f0_counted : Int32} {f0_coupleCount : Int32} {a1 : Nat → Int32} {a2 : Nat → Int32} {a3 : Nat → Int32} {a4 : Nat → Int32} {a5 : Nat → Int32} {a6 : Nat → Int32} {a7 : Nat → Int32} {a8 : Nat → Int32} {a9 : Nat → Int32} {a10 : Nat → Int32} {a11 : Nat → Int32} {a12 : Nat → Int32} {a13 : Nat → Int32} {a14 : Nat → Int32} {a15 : Nat → Int32} {a16 : Nat → Int32} {a17 : Nat → Int32} {p0 : Int32} {p1 : Int32} {p2 : Int32} {k_ : Int32 → Bool} (h : zm_extremeCount k_ f0_count a3 p0 p1 p2 = true) (hk : ∀ y, k_ y = true → post y) : wpX_extremeCount post (f0_count, f0_counted, f0_coupleCount, a1, a2, a3, a4, a5, a6, a7, a8, a9, a10, a11, a12, a13, a14, a15, a16, a17) p0 p1 p2 :=
  nm_e (⟨40, zq_s_extremeCount_13 h hk⟩)
noncomputable def zm_smallestMargin_5 (k_ : Int32 → Bool) (x1 : Int32) (a4 : Nat → Int32) (n_ : Nat) : Int32 → Int32 → Bool := @Nat.rec (fun _ => Int32 → Int32 → Bool) (fun _ _ => false) (fun _ ih => fun x2 x3 => (if 5 ≤ x3 then (k_ x2) else (if x3 = x1 then ((fun (x3_3 : Int32) => (ih x2 x3_3)) (x3 + 1)) else (zq_inb ((5 * x1) + x3) 25 && (if x2 ≤ (a4 ((5 * x1) + x3).toNatClampNeg) then ((fun (x3_6 : Int32) => (ih x2 x3_6)) (x3 + 1)) else (zq_inb ((5 * x1) + x3) 25 && ((fun (x2_8 : Int32) => ((fun (x3_9 : Int32) => (ih x2_8 x3_9)) (x3 + 1))) (a4 ((5 * x1) + x3).toNatClampNeg)))))))) n_
theorem zq_s_smallestMargin_5 {post : Int32 → Prop} {x1 : Int32} {f0_count : Int32} {f0_counted : Int32} {f0_coupleCount : Int32} {a1 : Nat → Int32} {a2 : Nat → Int32} {a3 : Nat → Int32} {a4 : Nat → Int32} {a5 : Nat → Int32} {a6 : Nat → Int32} {a7 : Nat → Int32} {a8 : Nat → Int32} {a9 : Nat → Int32} {a10 : Nat → Int32} {a11 : Nat → Int32} {a12 : Nat → Int32} {a13 : Nat → Int32} {a14 : Nat → Int32} {a15 : Nat → Int32} {a16 : Nat → Int32} {a17 : Nat → Int32} {k_ : Int32 → Bool} {n : Nat} {x2 : Int32} {x3 : Int32} (h : zm_smallestMargin_5 k_ x1 a4 n x2 x3 = true) (hk : ∀ y, k_ y = true → post y) : wX_smallestMargin_5 post x1 f0_count f0_counted f0_coupleCount a1 a2 a3 a4 a5 a6 a7 a8 a9 a10 a11 a12 a13 a14 a15 a16 a17 n x2 x3 := by
  induction n generalizing x2 x3 with
  | zero => exact absurd h Bool.false_ne_true
  | succ n ih => exact zq_cb_if h (fun h => hk _ h) (fun h => zq_cb_if h (fun h => nm_e (ih h)) (fun h => zq_cb_in h (fun _ h => zq_cb_if h (fun h => nm_e (ih h)) (fun h => zq_cb_in h (fun _ h => nm_e (nm_e (ih h)))))))
noncomputable def zm_smallestMargin (k_ : Int32 → Bool) (a4 : Nat → Int32) (p0 : Int32) : Bool := (zm_smallestMargin_5 k_ p0 a4 40 100 0)
theorem zq_s_smallestMargin {post : Int32 → Prop} {f0_count : Int32} {f0_counted : Int32} {f0_coupleCount : Int32} {a1 : Nat → Int32} {a2 : Nat → Int32} {a3 : Nat → Int32} {a4 : Nat → Int32} {a5 : Nat → Int32} {a6 : Nat → Int32} {a7 : Nat → Int32} {a8 : Nat → Int32} {a9 : Nat → Int32} {a10 : Nat → Int32} {a11 : Nat → Int32} {a12 : Nat → Int32} {a13 : Nat → Int32} {a14 : Nat → Int32} {a15 : Nat → Int32} {a16 : Nat → Int32} {a17 : Nat → Int32} {p0 : Int32} {k_ : Int32 → Bool} (h : zm_smallestMargin k_ a4 p0 = true) (hk : ∀ y, k_ y = true → post y) : wpX_smallestMargin post (f0_count, f0_counted, f0_coupleCount, a1, a2, a3, a4, a5, a6, a7, a8, a9, a10, a11, a12, a13, a14, a15, a16, a17) p0 :=
  ⟨40, zq_s_smallestMargin_5 h hk⟩
noncomputable def zm_copeland_4 (k_ : Int32 → Bool) (x1 : Int32) (a4 : Nat → Int32) (n_ : Nat) : Int32 → Int32 → Bool := @Nat.rec (fun _ => Int32 → Int32 → Bool) (fun _ _ => false) (fun _ ih => fun x2 x3 => (if 5 ≤ x3 then (k_ x2) else (if x3 = x1 then ((fun (x3_13 : Int32) => (ih x2 x3_13)) (x3 + 1)) else (zq_inb ((5 * x1) + x3) 25 && ((fun (x4_4 : Int32) => (if x4_4 ≤ 0 then (if x4_4 = 0 then ((fun (x2_9 : Int32) => ((fun (x3_10 : Int32) => (ih x2_9 x3_10)) (x3 + 1))) (x2 + 1)) else ((fun (x2_7 : Int32) => ((fun (x3_8 : Int32) => (ih x2_7 x3_8)) (x3 + 1))) (x2 + 0))) else ((fun (x2_11 : Int32) => ((fun (x3_12 : Int32) => (ih x2_11 x3_12)) (x3 + 1))) (x2 + 2)))) (a4 ((5 * x1) + x3).toNatClampNeg)))))) n_
theorem zq_s_copeland_4 {post : Int32 → Prop} {x1 : Int32} {f0_count : Int32} {f0_counted : Int32} {f0_coupleCount : Int32} {a1 : Nat → Int32} {a2 : Nat → Int32} {a3 : Nat → Int32} {a4 : Nat → Int32} {a5 : Nat → Int32} {a6 : Nat → Int32} {a7 : Nat → Int32} {a8 : Nat → Int32} {a9 : Nat → Int32} {a10 : Nat → Int32} {a11 : Nat → Int32} {a12 : Nat → Int32} {a13 : Nat → Int32} {a14 : Nat → Int32} {a15 : Nat → Int32} {a16 : Nat → Int32} {a17 : Nat → Int32} {k_ : Int32 → Bool} {n : Nat} {x2 : Int32} {x3 : Int32} (h : zm_copeland_4 k_ x1 a4 n x2 x3 = true) (hk : ∀ y, k_ y = true → post y) : wX_copeland_4 post x1 f0_count f0_counted f0_coupleCount a1 a2 a3 a4 a5 a6 a7 a8 a9 a10 a11 a12 a13 a14 a15 a16 a17 n x2 x3 := by
  induction n generalizing x2 x3 with
  | zero => exact absurd h Bool.false_ne_true
  | succ n ih => exact zq_cb_if h (fun h => hk _ h) (fun h => zq_cb_if h (fun h => nm_e (ih h)) (fun h => zq_cb_in h (fun _ h => nm_e (zq_cb_if h (fun h => zq_cb_if h (fun h => nm_e (nm_e (ih h))) (fun h => nm_e (nm_e (ih h)))) (fun h => nm_e (nm_e (ih h)))))))
noncomputable def zm_copeland (k_ : Int32 → Bool) (a4 : Nat → Int32) (p0 : Int32) : Bool := (zm_copeland_4 k_ p0 a4 40 0 0)
theorem zq_s_copeland {post : Int32 → Prop} {f0_count : Int32} {f0_counted : Int32} {f0_coupleCount : Int32} {a1 : Nat → Int32} {a2 : Nat → Int32} {a3 : Nat → Int32} {a4 : Nat → Int32} {a5 : Nat → Int32} {a6 : Nat → Int32} {a7 : Nat → Int32} {a8 : Nat → Int32} {a9 : Nat → Int32} {a10 : Nat → Int32} {a11 : Nat → Int32} {a12 : Nat → Int32} {a13 : Nat → Int32} {a14 : Nat → Int32} {a15 : Nat → Int32} {a16 : Nat → Int32} {a17 : Nat → Int32} {p0 : Int32} {k_ : Int32 → Bool} (h : zm_copeland k_ a4 p0 = true) (hk : ∀ y, k_ y = true → post y) : wpX_copeland post (f0_count, f0_counted, f0_coupleCount, a1, a2, a3, a4, a5, a6, a7, a8, a9, a10, a11, a12, a13, a14, a15, a16, a17) p0 :=
  ⟨40, zq_s_copeland_4 h hk⟩
noncomputable def zm_hasHalf_2 (k_ : Int32 → Bool) (f0_count : Int32) (a6 : Nat → Int32) (n_ : Nat) : Int32 → Bool := @Nat.rec (fun _ => Int32 → Bool) (fun _ => false) (fun _ ih => fun x1 => (if 5 ≤ x1 then (k_ 0) else (zq_inb x1 5 && (if (2 * (a6 x1.toNatClampNeg)) ≤ f0_count then ((fun (x1_4 : Int32) => (ih x1_4)) (x1 + 1)) else (k_ 1))))) n_
theorem zq_s_hasHalf_2 {post : Int32 → Prop} {f0_count : Int32} {f0_counted : Int32} {f0_coupleCount : Int32} {a1 : Nat → Int32} {a2 : Nat → Int32} {a3 : Nat → Int32} {a4 : Nat → Int32} {a5 : Nat → Int32} {a6 : Nat → Int32} {a7 : Nat → Int32} {a8 : Nat → Int32} {a9 : Nat → Int32} {a10 : Nat → Int32} {a11 : Nat → Int32} {a12 : Nat → Int32} {a13 : Nat → Int32} {a14 : Nat → Int32} {a15 : Nat → Int32} {a16 : Nat → Int32} {a17 : Nat → Int32} {k_ : Int32 → Bool} {b_a6 : Nat → Int32} {n : Nat} {x1 : Int32} (h : zm_hasHalf_2 k_ f0_count b_a6 n x1 = true) (hk : ∀ y, k_ y = true → post y) (hg_a6 : ∀ k, k < 5 → a6 k = b_a6 k) : wX_hasHalf_2 post f0_count f0_counted f0_coupleCount a1 a2 a3 a4 a5 a6 a7 a8 a9 a10 a11 a12 a13 a14 a15 a16 a17 n x1 := by
  induction n generalizing x1 with
  | zero => exact absurd h Bool.false_ne_true
  | succ n ih => exact zq_cb_if h (fun h => hk _ h) (fun h => zq_cb_in h (fun g h => by rw [zq_rd g hg_a6]; exact zq_cb_if h (fun h => nm_e (ih h)) (fun h => hk _ h)))
noncomputable def zm_hasHalf (k_ : Int32 → Bool) (f0_count : Int32) (a6 : Nat → Int32) : Bool := (zm_hasHalf_2 k_ f0_count a6 40 0)
theorem zq_s_hasHalf {post : Int32 → Prop} {f0_count : Int32} {f0_counted : Int32} {f0_coupleCount : Int32} {a1 : Nat → Int32} {a2 : Nat → Int32} {a3 : Nat → Int32} {a4 : Nat → Int32} {a5 : Nat → Int32} {a6 : Nat → Int32} {a7 : Nat → Int32} {a8 : Nat → Int32} {a9 : Nat → Int32} {a10 : Nat → Int32} {a11 : Nat → Int32} {a12 : Nat → Int32} {a13 : Nat → Int32} {a14 : Nat → Int32} {a15 : Nat → Int32} {a16 : Nat → Int32} {a17 : Nat → Int32} {k_ : Int32 → Bool} {b_a6 : Nat → Int32} (h : zm_hasHalf k_ f0_count b_a6 = true) (hk : ∀ y, k_ y = true → post y) (hg_a6 : ∀ k, k < 5 → a6 k = b_a6 k) : wpX_hasHalf post (f0_count, f0_counted, f0_coupleCount, a1, a2, a3, a4, a5, a6, a7, a8, a9, a10, a11, a12, a13, a14, a15, a16, a17)  :=
  ⟨40, zq_s_hasHalf_2 h hk hg_a6⟩
noncomputable def zm_greatestScores_33 (k_ : Int32 → Bool) (j_ : Int32 → Int32 → Int32 → Bool) (x2 : Int32) (x3 : Int32) (x4 : Int32) (am26 : Nat → Int32) : Bool := (zq_inb x4 5 && (if (am26 x4.toNatClampNeg) < x3 then ((fun (x4_61 : Int32) => (j_ x2 x3 x4_61)) (x4 + 1)) else (zq_inb x4 5 && ((fun (x3_63 : Int32) => ((fun (x2_64 : Int32) => ((fun (x4_65 : Int32) => (j_ x2_64 x3_63 x4_65)) (x4 + 1))) (x2 ||| ((1 : Int32) <<< (x4 &&& 31))))) (am26 x4.toNatClampNeg)))))
theorem zq_s_greatestScores_33 {post : Int32 → St2 → Prop} {J14 : Int32 → Int32 → Int32 → Prop} {x2 : Int32} {x3 : Int32} {x4 : Int32} {f0_count : Int32} {f0_counted : Int32} {f0_coupleCount : Int32} {am21 : Nat → Int32} {am22 : Nat → Int32} {am23 : Nat → Int32} {am24 : Nat → Int32} {am25 : Nat → Int32} {am26 : Nat → Int32} {am27 : Nat → Int32} {am28 : Nat → Int32} {am29 : Nat → Int32} {am210 : Nat → Int32} {am211 : Nat → Int32} {am212 : Nat → Int32} {am213 : Nat → Int32} {am214 : Nat → Int32} {am215 : Nat → Int32} {am216 : Nat → Int32} {am217 : Nat → Int32} {k_ : Int32 → Bool} {j_ : Int32 → Int32 → Int32 → Bool} {b_am26 : Nat → Int32} (h : zm_greatestScores_33 k_ j_ x2 x3 x4 b_am26 = true) (hk : ∀ y, k_ y = true → post y (f0_count, f0_counted, f0_coupleCount, am21, am22, am23, am24, am25, am26, am27, am28, am29, am210, am211, am212, am213, am214, am215, am216, am217)) (hj : ∀ y0 y1 y2, j_ y0 y1 y2 = true → J14 y0 y1 y2) (hg_am26 : ∀ k, k < 5 → am26 k = b_am26 k) : wX_greatestScores_33 post J14 x2 x3 x4 f0_count f0_counted f0_coupleCount am21 am22 am23 am24 am25 am26 am27 am28 am29 am210 am211 am212 am213 am214 am215 am216 am217 :=
  zq_cb_in h (fun g h => by rw [zq_rd g hg_am26]; exact zq_cb_if h (fun h => nm_e (hj _ _ _ h)) (fun h => zq_cb_in h (fun _ h => nm_e (nm_e (nm_e (hj _ _ _ h))))))
noncomputable def zm_greatestScores_14 (k_ : Int32 → Bool) (am26 : Nat → Int32) (n_ : Nat) : Int32 → Int32 → Int32 → Bool := @Nat.rec (fun _ => Int32 → Int32 → Int32 → Bool) (fun _ _ _ => false) (fun _ ih => fun x2 x3 x4 => (if 5 ≤ x4 then (k_ x2) else (zq_inb x4 5 && (if (am26 x4.toNatClampNeg) ≤ x3 then (zm_greatestScores_33 k_ ih x2 x3 x4 am26) else (zm_greatestScores_33 k_ ih 0 x3 x4 am26))))) n_
theorem zq_s_greatestScores_14 {post : Int32 → St2 → Prop} {f0_count : Int32} {f0_counted : Int32} {f0_coupleCount : Int32} {am21 : Nat → Int32} {am22 : Nat → Int32} {am23 : Nat → Int32} {am24 : Nat → Int32} {am25 : Nat → Int32} {am26 : Nat → Int32} {am27 : Nat → Int32} {am28 : Nat → Int32} {am29 : Nat → Int32} {am210 : Nat → Int32} {am211 : Nat → Int32} {am212 : Nat → Int32} {am213 : Nat → Int32} {am214 : Nat → Int32} {am215 : Nat → Int32} {am216 : Nat → Int32} {am217 : Nat → Int32} {k_ : Int32 → Bool} {b_am26 : Nat → Int32} {n : Nat} {x2 : Int32} {x3 : Int32} {x4 : Int32} (h : zm_greatestScores_14 k_ b_am26 n x2 x3 x4 = true) (hk : ∀ y, k_ y = true → post y (f0_count, f0_counted, f0_coupleCount, am21, am22, am23, am24, am25, am26, am27, am28, am29, am210, am211, am212, am213, am214, am215, am216, am217)) (hg_am26 : ∀ k, k < 5 → am26 k = b_am26 k) : wX_greatestScores_14 post f0_count f0_counted f0_coupleCount am21 am22 am23 am24 am25 am26 am27 am28 am29 am210 am211 am212 am213 am214 am215 am216 am217 n x2 x3 x4 := by
  induction n generalizing x2 x3 x4 with
  | zero => exact absurd h Bool.false_ne_true
  | succ n ih => exact zq_cb_if h (fun h => hk _ h) (fun h => zq_cb_in h (fun g h => by rw [zq_rd g hg_am26]; exact zq_cb_if h (fun h => zq_s_greatestScores_33 h hk (fun _ _ _ h => ih h) hg_am26) (fun h => zq_s_greatestScores_33 h hk (fun _ _ _ h => ih h) hg_am26)))
noncomputable def zm_bestPlace_8 (k_ : Int32 → Bool) (x2 : Int32) (n_ : Nat) : Int32 → Int32 → Int32 → Bool := @Nat.rec (fun _ => Int32 → Int32 → Int32 → Bool) (fun _ _ _ => false) (fun _ ih => fun x3 x4 x5 => (if x5 < 0 then (k_ x3) else (zm_isIn (fun r_3 => (if r_3 = 0 then ((fun (x4_6 : Int32) => ((fun (x5_7 : Int32) => (ih x3 x4_6 x5_7)) (x5 + (-1)))) (x4 / 5)) else ((fun (x4_9 : Int32) => ((fun (x5_10 : Int32) => (ih x5 x4_9 x5_10)) (x5 + (-1)))) (x4 / 5)))) x2 (x4 - x4 / 5 * 5)))) n_
theorem zq_s_bestPlace_8 {post : Int32 → Prop} {x2 : Int32} {f0_count : Int32} {f0_counted : Int32} {f0_coupleCount : Int32} {a1 : Nat → Int32} {a2 : Nat → Int32} {a3 : Nat → Int32} {a4 : Nat → Int32} {a5 : Nat → Int32} {a6 : Nat → Int32} {a7 : Nat → Int32} {a8 : Nat → Int32} {a9 : Nat → Int32} {a10 : Nat → Int32} {a11 : Nat → Int32} {a12 : Nat → Int32} {a13 : Nat → Int32} {a14 : Nat → Int32} {a15 : Nat → Int32} {a16 : Nat → Int32} {a17 : Nat → Int32} {k_ : Int32 → Bool} {n : Nat} {x3 : Int32} {x4 : Int32} {x5 : Int32} (h : zm_bestPlace_8 k_ x2 n x3 x4 x5 = true) (hk : ∀ y, k_ y = true → post y) : wX_bestPlace_8 post x2 f0_count f0_counted f0_coupleCount a1 a2 a3 a4 a5 a6 a7 a8 a9 a10 a11 a12 a13 a14 a15 a16 a17 n x3 x4 x5 := by
  induction n generalizing x3 x4 x5 with
  | zero => exact absurd h Bool.false_ne_true
  | succ n ih => exact zq_cb_if h (fun h => hk _ h) (fun h => ⟨by decide, zq_s_isIn h (fun _ h => zq_cb_if h (fun h => ⟨by decide, nm_e (nm_e (ih h))⟩) (fun h => ⟨by decide, nm_e (nm_e (ih h))⟩))⟩)
noncomputable def zm_bestPlace (k_ : Int32 → Bool) (p0 : Int32) (p1 : Int32) : Bool := (zm_bestPlace_8 k_ p1 40 5 p0 4)
theorem zq_s_bestPlace {post : Int32 → Prop} {f0_count : Int32} {f0_counted : Int32} {f0_coupleCount : Int32} {a1 : Nat → Int32} {a2 : Nat → Int32} {a3 : Nat → Int32} {a4 : Nat → Int32} {a5 : Nat → Int32} {a6 : Nat → Int32} {a7 : Nat → Int32} {a8 : Nat → Int32} {a9 : Nat → Int32} {a10 : Nat → Int32} {a11 : Nat → Int32} {a12 : Nat → Int32} {a13 : Nat → Int32} {a14 : Nat → Int32} {a15 : Nat → Int32} {a16 : Nat → Int32} {a17 : Nat → Int32} {p0 : Int32} {p1 : Int32} {k_ : Int32 → Bool} (h : zm_bestPlace k_ p0 p1 = true) (hk : ∀ y, k_ y = true → post y) : wpX_bestPlace post (f0_count, f0_counted, f0_coupleCount, a1, a2, a3, a4, a5, a6, a7, a8, a9, a10, a11, a12, a13, a14, a15, a16, a17) p0 p1 :=
  ⟨40, zq_s_bestPlace_8 h hk⟩
end
section
-- part 03: put, countAll
theorem zq_i8 {m : Nat} (h : m < 128) : (nI m).toInt8.toInt32 = nI m := by
  have f : zq_rg 128 (fun m => (nI m).toInt8.toInt32 == nI m) = true := by decide +kernel
  exact eq_of_beq (zq_rgI f h)
theorem zq_i16 {m : Nat} (h : m < 3125) : (nI m).toInt16.toInt32 = nI m := by
  have f : zq_rg 3125 (fun m => (nI m).toInt16.toInt32 == nI m) = true := by decide +kernel
  exact eq_of_beq (zq_rgI f h)
theorem zq_T1n {t j : Nat} (h : j ≠ 0) : zq_T1 t j = 0 := if_neg (fun z => h z.1)
theorem zq_T2n {t j : Nat} (h : 5 ≤ j) : zq_T2 t j = 0 := if_neg (fun z => by omega)
theorem zq_T2e {t j : Nat} (ht : t < 3125) (h : j < 5) : zq_T2 t j = nI (zq_d t j) := if_pos ⟨h, ht⟩
theorem zq_dlt (t k : Nat) : zq_d t k < 5 := Nat.mod_lt _ (by decide)
theorem zq_T1u {t0 t : Nat} (ht : t < 3125) : upd (zq_T1 t0) (0 : Int32).toNatClampNeg (nI t).toInt16.toInt32 = zq_T1 t := by
  funext j
  rw [sb_cl0, zq_i16 ht]
  by_cases e : j = 0
  · rw [e, pk_us]
    exact (if_pos ⟨rfl, ht⟩).symm
  · rw [pk_un e, zq_T1n e, zq_T1n e]
theorem zq_put {post : St2 → Prop} {c0 c1 cc : Int32} {a3 a4 a5 a6 a7 a8 a9 a10 a11 a12 a13 a14 a15 a16 a17 : Nat → Int32} {t0 t : Nat} (ht : t < 3125) (H : post (c0, 0, cc, zq_T1 t, zq_T2 t, a3, a4, a5, a6, a7, a8, a9, a10, a11, a12, a13, a14, a15, a16, a17)) : wpX_put post (c0, c1, cc, zq_T1 t0, zq_T2 t0, a3, a4, a5, a6, a7, a8, a9, a10, a11, a12, a13, a14, a15, a16, a17) 0 (nI t) := by
  refine ⟨pk_in 0 9 (by omega), nm_r (zq_T1u ht) ⟨6, ?_⟩⟩
  have key := pk_loopD (σ := Int32 × (Nat → Int32)) (fun n i s => wX_put_13 post 0 c0 c1 cc n s.1 (nI i + (-1)) (zq_T1 t) s.2 a3 a4 a5 a6 a7 a8 a9 a10 a11 a12 a13 a14 a15 a16 a17) (fun i s => i ≤ 5 ∧ s.1 = nI (t / 5 ^ (5 - i)) ∧ ∀ j, i ≤ j → s.2 j = zq_T2 t j) ?_ ?_ 5 (nI t, zq_T2 t0) ?_
  · rw [show (4 : Int32) = nI 5 + (-1) from by decide]
    exact key
  · intro n s h
    have e : s.2 = zq_T2 t := funext (fun j => h.2.2 j (Nat.zero_le j))
    show wX_put_13 post 0 c0 c1 cc (n + 1) s.1 (nI 0 + (-1)) (zq_T1 t) s.2 a3 a4 a5 a6 a7 a8 a9 a10 a11 a12 a13 a14 a15 a16 a17
    rw [e]
    exact br_t (by decide) H
  · intro n i s h hw
    obtain ⟨h1, h2, h3⟩ := h
    show wX_put_13 post 0 c0 c1 cc (n + 1) s.1 (nI (i + 1) + (-1)) (zq_T1 t) s.2 a3 a4 a5 a6 a7 a8 a9 a10 a11 a12 a13 a14 a15 a16 a17
    rw [pk_m1]
    have hq : t / 5 ^ (4 - i) < 2 ^ 31 := Nat.lt_of_le_of_lt (Nat.div_le_self _ _) (by omega)
    have e5 : 5 - (i + 1) = 4 - i := by omega
    rw [e5] at h2
    refine br_f (nI_pos (by omega)) ⟨by decide, pk_in i 45 (by omega) (zq_50 i), nm_e ⟨by decide, nm_e (nm_e (hw (_, _) ⟨by omega, ?_, ?_⟩))⟩⟩
    · show s.1 / 5 = _
      rw [h2, show (5 : Int32) = nI 5 from rfl, pk_div hq (by decide) (by decide), Nat.div_div_eq_div_mul, ← Nat.pow_succ, show (4 - i).succ = 5 - i by omega]
    · show ∀ j, i ≤ j → upd s.2 (((5 : Int32) * 0) + nI i).toNatClampNeg (s.1 - s.1 / 5 * 5).toInt8.toInt32 j = zq_T2 t j
      intro j hj
      rw [zq_50, nI_clamp (by omega)]
      by_cases e : j = i
      · rw [e, pk_us, h2, show (5 : Int32) = nI 5 from rfl, pk_rem hq (by decide) (by decide), zq_i8 (Nat.lt_of_lt_of_le (Nat.mod_lt _ (by decide)) (by decide)), zq_T2e ht (by omega)]
        rfl
      · rw [pk_un e]
        exact h3 j (by omega)
  · refine ⟨by omega, ?_, ?_⟩
    · show nI t = nI (t / 5 ^ (5 - 5))
      rw [Nat.sub_self, Nat.pow_zero, Nat.div_one]
    · intro j hj
      show zq_T2 t0 j = _
      rw [zq_T2n hj, zq_T2n hj]
/-! countBallot -/
theorem zq_blt (B j : Nat) : zq_b B j < 2 := Nat.mod_lt _ (by decide)
theorem zq_bT (B j : Nat) : zq_b B j = if B.testBit j then 1 else 0 := by
  unfold zq_b
  rw [Nat.testBit_eq_decide_div_mod_eq, Nat.shiftRight_eq_div_pow]
  have := Nat.mod_two_eq_zero_or_one (B / 2 ^ j)
  rcases this with h | h
  · rw [h]; rfl
  · rw [h]; rfl
theorem zq_orb (M q j : Nat) : zq_b (M ||| 2 ^ q) j = if j = q then 1 else zq_b M j := by
  rw [zq_bT, zq_bT, Nat.testBit_or, Nat.testBit_two_pow]
  by_cases e : j = q
  · rw [e]; simp
  · have e' : ¬ q = j := fun z => e z.symm
    simp [e, e']
theorem zq_or1 : ∀ b, b < 2 → ((nI b) ||| ((1 : Int32) <<< ((0 : Int32) &&& 31))).toInt16.toInt32 = 1 := by decide +kernel
theorem zq_or3 {M q : Nat} : upd (zq_T3 M) q (((zq_T3 M q) ||| ((1 : Int32) <<< ((0 : Int32) &&& 31))).toInt16.toInt32) = zq_T3 (M ||| 2 ^ q) := by
  funext j
  by_cases e : j = q
  · rw [e, pk_us]
    show _ = nI (zq_b (M ||| 2 ^ q) q)
    rw [zq_orb, if_pos rfl]
    exact zq_or1 _ (zq_blt M q)
  · rw [pk_un e]
    show nI (zq_b M j) = nI (zq_b (M ||| 2 ^ q) j)
    rw [zq_orb, if_neg e]
def zq_im (t k M : Nat) : Nat → Nat
  | 0 => M
  | l + 1 => if l ≤ k then zq_im t k M l else zq_im t k M l ||| 2 ^ (5 * zq_d t k + zq_d t l)
def zq_om (t : Nat) : Nat → Nat
  | 0 => 0
  | k + 1 => zq_im t k (zq_om t k) 5
theorem zq_im0 (t k M : Nat) : ∀ l, l ≤ k + 1 → zq_im t k M l = M := by
  intro l
  induction l with
  | zero => intro _; rfl
  | succ l ih =>
    intro h
    show (if l ≤ k then zq_im t k M l else _) = M
    rw [if_pos (by omega), ih (by omega)]
theorem zq_imS {t k M l : Nat} (h : k < l) : zq_im t k M (l + 1) = zq_im t k M l ||| 2 ^ (5 * zq_d t k + zq_d t l) := if_neg (by omega)
theorem zq_cb11 {post : St2 → Prop} {J : Int32 → (Nat → Int32) → (Nat → Int32) → (Nat → Int32) → (Nat → Int32) → (Nat → Int32) → (Nat → Int32) → (Nat → Int32) → (Nat → Int32) → (Nat → Int32) → (Nat → Int32) → (Nat → Int32) → (Nat → Int32) → (Nat → Int32) → (Nat → Int32) → (Nat → Int32) → (Nat → Int32) → (Nat → Int32) → Prop} {c0 c1 cc : Int32} {a1 a4 a5 a6 a7 a8 a9 a10 a11 a12 a13 a14 a15 a16 a17 : Nat → Int32} {t k M : Nat} (ht : t < 3125) (hk : k < 5) (H : J (nI (k + 1)) a1 (zq_T2 t) (zq_T3 (zq_im t k M 5)) a4 a5 a6 a7 a8 a9 a10 a11 a12 a13 a14 a15 a16 a17) : ∃ n, wX_countBallot_11 post J 0 (nI k) c0 c1 cc n (nI (k + 1)) a1 (zq_T2 t) (zq_T3 M) a4 a5 a6 a7 a8 a9 a10 a11 a12 a13 a14 a15 a16 a17 := by
  refine pk_loop (fun n i s => wX_countBallot_11 post J 0 (nI k) c0 c1 cc n (nI i) a1 (zq_T2 t) s a4 a5 a6 a7 a8 a9 a10 a11 a12 a13 a14 a15 a16 a17) (fun i s => k < i ∧ s = zq_T3 (zq_im t k M i)) 5 (k + 1) (zq_T3 M) (by omega) ⟨by omega, by rw [zq_im0 _ _ _ _ (Nat.le_refl _)]⟩ ?_ ?_
  · intro n s h
    obtain ⟨_, rfl⟩ := h
    exact pk_le 5 5 (fun _ => nm_r (nI_1 k) H) (fun z => absurd z (by omega))
  · intro n i s hi h hw
    obtain ⟨h1, rfl⟩ := h
    have d1 := zq_dlt t k
    have d2 := zq_dlt t i
    have e1 : zq_T2 t (((5 : Int32) * 0) + nI k).toNatClampNeg = nI (zq_d t k) := by rw [zq_50, nI_clamp (by omega), zq_T2e ht hk]
    have e2 : zq_T2 t (((5 : Int32) * 0) + nI i).toNatClampNeg = nI (zq_d t i) := by rw [zq_50, nI_clamp (by omega), zq_T2e ht hi]
    refine pk_le 5 i (fun z => absurd z (by omega)) (fun _ => ⟨pk_in k 45 (by omega) (zq_50 k), pk_in i 45 (by omega) (zq_50 i), ?_⟩)
    rw [e1, e2, zq_55, nI_clamp (by omega)]
    exact ⟨vp_in_nI (by omega) (by decide), vp_in_nI (by omega) (by decide), nm_r zq_or3 (nm_r (nI_1 i) (hw _ ⟨by omega, by rw [zq_imS h1]⟩))⟩
theorem zq_omB {t B : Nat} (hm : (t, B) ∈ zq_TL) (ht : t < 3125) : zq_om t 5 = B := by
  have f : zq_all (fun t B => (decide (3125 ≤ t) || zq_om t 5 == B)) = true := by decide +kernel
  have := zq_allI f hm
  rw [Bool.or_eq_true, decide_eq_true_iff] at this
  rcases this with h | h
  · omega
  · exact eq_of_beq h
theorem zq_cb {post : St2 → Prop} {c0 c1 cc : Int32} {a1 a4 a5 a6 a7 a8 a9 a10 a11 a12 a13 a14 a15 a16 a17 : Nat → Int32} {t B : Nat} (hm : (t, B) ∈ zq_TL) (ht : t < 3125) (H : post (c0, c1, cc, a1, zq_T2 t, zq_T3 B, a4, a5, a6, a7, a8, a9, a10, a11, a12, a13, a14, a15, a16, a17)) : wpX_countBallot post (c0, c1, cc, a1, zq_T2 t, zq_T3 0, a4, a5, a6, a7, a8, a9, a10, a11, a12, a13, a14, a15, a16, a17) 0 := by
  refine pk_loop (fun n i s => wX_countBallot_2 post 0 c0 c1 cc n (nI i) a1 (zq_T2 t) s a4 a5 a6 a7 a8 a9 a10 a11 a12 a13 a14 a15 a16 a17) (fun i s => s = zq_T3 (zq_om t i)) 5 0 (zq_T3 0) (by omega) rfl ?_ ?_
  · intro n s h
    subst h
    rw [zq_omB hm ht]
    exact pk_le 5 5 (fun _ => H) (fun z => absurd z (by omega))
  · intro n i s hi h hw
    subst h
    exact pk_le 5 i (fun z => absurd z (by omega)) (fun _ => nm_r (nI_1 i) (zq_cb11 ht hi (hw _ rfl)))
/-! margins and beaten -/
def zq_mf (B B0 m : Nat) : Nat → Int32 := fun j => if j < m then zq_T4 B j else zq_T4 B0 j
def zq_bf (B B0 a b : Nat) : Nat → Int32 := fun j => if j < a then zq_T5 B j else if j = a then nI ((B >>> (5 * a)) % 2 ^ b) else zq_T5 B0 j
theorem zq_ones3 {post : Int32 → Prop} {c0 c1 cc : Int32} {a1 a2 a3 a4 a5 a6 a7 a8 a9 a10 a11 a12 a13 a14 a15 a16 a17 : Nat → Int32} {B j : Nat} (H : post (nI (zq_b B j))) : wpX_onesIn post (c0, c1, cc, a1, a2, a3, a4, a5, a6, a7, a8, a9, a10, a11, a12, a13, a14, a15, a16, a17) (zq_T3 B j) := by
  have h : ∀ b, b < 2 → zm_onesIn (fun r => r == nI b) (nI b) = true := by decide +kernel
  exact zq_s_onesIn (h _ (zq_blt B j)) (zq_eqk H)
theorem zq_nar3 : ∀ a, a < 2 → ∀ b, b < 2 → (nI a - nI b).toInt8.toInt32 = nI a - nI b := by decide +kernel
theorem zq_T4e {B a b : Nat} (ha : a < 5) (hb : b < 5) : zq_T4 B (5 * a + b) = nI (zq_b B (5 * a + b)) - nI (zq_b B (5 * b + a)) := by
  unfold zq_T4
  rw [if_pos (by omega), show (5 * a + b) % 5 = b by omega, show (5 * a + b) / 5 = a by omega]
theorem zq_mfS {B B0 a b : Nat} (ha : a < 5) (hb : b < 5) : upd (zq_mf B B0 (5 * a + b)) (5 * a + b) (nI (zq_b B (5 * a + b)) - nI (zq_b B (5 * b + a))).toInt8.toInt32 = zq_mf B B0 (5 * a + (b + 1)) := by
  funext j
  rw [zq_nar3 _ (zq_blt _ _) _ (zq_blt _ _)]
  by_cases e : j = 5 * a + b
  · rw [e, pk_us, ← zq_T4e ha hb]
    exact (if_pos (by omega)).symm
  · rw [pk_un e]
    show (if j < 5 * a + b then zq_T4 B j else zq_T4 B0 j) = (if j < 5 * a + (b + 1) then zq_T4 B j else zq_T4 B0 j)
    by_cases g : j < 5 * a + b
    · rw [if_pos g, if_pos (by omega)]
    · rw [if_neg g, if_neg (by omega)]
def zq_bfQ (B a b : Nat) : Bool := if nI (zq_b B (5 * a + b)) - nI (zq_b B (5 * b + a)) ≤ 0 then (B >>> (5 * a)) % 2 ^ b == (B >>> (5 * a)) % 2 ^ (b + 1) else ((nI ((B >>> (5 * a)) % 2 ^ b)) ||| ((1 : Int32) <<< (nI b &&& 31))).toInt8.toInt32 == nI ((B >>> (5 * a)) % 2 ^ (b + 1))
theorem zq_bfF {t B : Nat} (hm : (t, B) ∈ zq_TL) {a b : Nat} (ha : a < 5) (hb : b < 5) : zq_bfQ B a b = true := by
  have f : zq_all (fun _ B => zq_rg 5 (fun a => zq_rg 5 (fun b => zq_bfQ B a b))) = true := by decide +kernel
  exact zq_rgI (zq_rgI (zq_allI f hm) ha) hb
theorem zq_bfL {t B B0 : Nat} (hm : (t, B) ∈ zq_TL) {a b : Nat} (ha : a < 5) (hb : b < 5) (z : nI (zq_b B (5 * a + b)) - nI (zq_b B (5 * b + a)) ≤ 0) : zq_bf B B0 a b = zq_bf B B0 a (b + 1) := by
  have f := zq_bfF hm ha hb
  unfold zq_bfQ at f
  rw [if_pos z] at f
  unfold zq_bf
  rw [eq_of_beq f]
theorem zq_bfG {t B B0 : Nat} (hm : (t, B) ∈ zq_TL) {a b : Nat} (ha : a < 5) (hb : b < 5) (z : ¬ nI (zq_b B (5 * a + b)) - nI (zq_b B (5 * b + a)) ≤ 0) : upd (zq_bf B B0 a b) a (((zq_bf B B0 a b a) ||| ((1 : Int32) <<< (nI b &&& 31))).toInt8.toInt32) = zq_bf B B0 a (b + 1) := by
  have f := zq_bfF hm ha hb
  unfold zq_bfQ at f
  rw [if_neg z] at f
  have e0 : ∀ b, zq_bf B B0 a b a = nI ((B >>> (5 * a)) % 2 ^ b) := fun b => by
    unfold zq_bf
    rw [if_neg (Nat.lt_irrefl a), if_pos rfl]
  funext j
  by_cases e : j = a
  · rw [e, pk_us, e0, e0]
    exact eq_of_beq f
  · rw [pk_un e]
    unfold zq_bf
    rw [if_neg e, if_neg e]
theorem zq_71 {post : St2 → Prop} {J : Int32 → (Nat → Int32) → (Nat → Int32) → (Nat → Int32) → (Nat → Int32) → (Nat → Int32) → (Nat → Int32) → (Nat → Int32) → (Nat → Int32) → (Nat → Int32) → (Nat → Int32) → (Nat → Int32) → (Nat → Int32) → (Nat → Int32) → (Nat → Int32) → (Nat → Int32) → (Nat → Int32) → (Nat → Int32) → Prop} {c0 c1 cc : Int32} {a1 a2 a6 a7 a8 a9 a10 a11 a12 a13 a14 a15 a16 a17 : Nat → Int32} {t B B0 a : Nat} (hm : (t, B) ∈ zq_TL) (ha : a < 5) (H : J (nI (a + 1)) a1 a2 (zq_T3 B) (zq_mf B B0 (5 * a + 5)) (zq_bf B B0 a 5) a6 a7 a8 a9 a10 a11 a12 a13 a14 a15 a16 a17) : ∃ n, wX_countAll_71 post J (nI a) c0 c1 cc n 0 a1 a2 (zq_T3 B) (zq_mf B B0 (5 * a)) (zq_bf B B0 a 0) a6 a7 a8 a9 a10 a11 a12 a13 a14 a15 a16 a17 := by
  refine pk_loop (σ := (Nat → Int32) × (Nat → Int32)) (fun n i s => wX_countAll_71 post J (nI a) c0 c1 cc n (nI i) a1 a2 (zq_T3 B) s.1 s.2 a6 a7 a8 a9 a10 a11 a12 a13 a14 a15 a16 a17) (fun i s => s = (zq_mf B B0 (5 * a + i), zq_bf B B0 a i)) 5 0 (zq_mf B B0 (5 * a), zq_bf B B0 a 0) (by omega) rfl ?_ ?_
  · intro n s h
    subst h
    exact pk_le 5 5 (fun _ => nm_r (nI_1 a) H) (fun z => absurd z (by omega))
  · intro n i s hi h hw
    subst h
    refine pk_le 5 i (fun z => absurd z (by omega)) (fun _ => ?_)
    rw [zq_55, zq_55, nI_clamp (show 5 * a + i < 2 ^ 31 by omega), nI_clamp (show 5 * i + a < 2 ^ 31 by omega), nI_clamp (show a < 2 ^ 31 by omega)]
    refine ⟨vp_in_nI (by omega) (by decide), zq_ones3 ⟨vp_in_nI (by omega) (by decide), zq_ones3 (nm_e ⟨vp_in_nI (by omega) (by decide), nm_r (zq_mfS ha hi) (br_c (fun z => nm_r (nI_1 i) ?_) (fun z => ⟨vp_in_nI (by omega) (by decide), vp_in_nI (by omega) (by decide), nm_r (zq_bfG hm ha hi z) (nm_r (nI_1 i) (hw _ rfl))⟩))⟩)⟩⟩
    exact hw (zq_mf B B0 (5 * a + (i + 1)), zq_bf B B0 a i) (Prod.ext rfl (zq_bfL hm ha hi z))
def zq_of (B B0 a : Nat) : Nat → Int32 := fun j => if j < a then zq_T5 B j else zq_T5 B0 j
theorem zq_of0 {B B0 a : Nat} : upd (zq_of B B0 a) a 0 = zq_bf B B0 a 0 := by
  funext j
  unfold zq_bf zq_of
  by_cases e : j = a
  · rw [e, pk_us, if_neg (Nat.lt_irrefl a), if_pos rfl, Nat.pow_zero, Nat.mod_one]
    rfl
  · rw [pk_un e, if_neg e]
theorem zq_of5 {B B0 a : Nat} (ha : a < 5) : zq_bf B B0 a 5 = zq_of B B0 (a + 1) := by
  funext j
  unfold zq_bf zq_of
  by_cases e : j = a
  · rw [e, if_neg (Nat.lt_irrefl a), if_pos rfl, if_pos (by omega)]
    unfold zq_T5
    rw [if_pos ha]
    rfl
  · by_cases g : j < a
    · rw [if_pos g, if_pos (by omega)]
    · rw [if_neg g, if_neg e, if_neg (by omega)]
theorem zq_57 {post : St2 → Prop} {c0 c1 cc : Int32} {a1 a2 a6 a7 a8 a9 a10 a11 a12 a13 a14 a15 a16 a17 : Nat → Int32} {t B B0 : Nat} (hm : (t, B) ∈ zq_TL) (H : post (c0, c1, cc, a1, a2, zq_T3 B, zq_T4 B, zq_T5 B, a6, a7, a8, a9, a10, a11, a12, a13, a14, a15, a16, a17)) : ∃ n, wX_countAll_57 post c0 c1 cc n 0 a1 a2 (zq_T3 B) (zq_T4 B0) (zq_T5 B0) a6 a7 a8 a9 a10 a11 a12 a13 a14 a15 a16 a17 := by
  have e4 : zq_mf B B0 (5 * 5) = zq_T4 B := by
    funext j
    unfold zq_mf
    by_cases g : j < 5 * 5
    · rw [if_pos g]
    · rw [if_neg g]
      unfold zq_T4
      rw [if_neg g, if_neg g]
  have e5 : zq_of B B0 5 = zq_T5 B := by
    funext j
    unfold zq_of
    by_cases g : j < 5
    · rw [if_pos g]
    · rw [if_neg g]
      unfold zq_T5
      rw [if_neg g, if_neg g]
  have e40 : zq_T4 B0 = zq_mf B B0 (5 * 0) := by
    funext j
    exact (if_neg (by omega)).symm
  have e50 : zq_T5 B0 = zq_of B B0 0 := by
    funext j
    exact (if_neg (by omega)).symm
  refine pk_loop (σ := (Nat → Int32) × (Nat → Int32)) (fun n i s => wX_countAll_57 post c0 c1 cc n (nI i) a1 a2 (zq_T3 B) s.1 s.2 a6 a7 a8 a9 a10 a11 a12 a13 a14 a15 a16 a17) (fun i s => s = (zq_mf B B0 (5 * i), zq_of B B0 i)) 5 0 (zq_T4 B0, zq_T5 B0) (by omega) (Prod.ext e40 e50) ?_ ?_
  · intro n s h
    subst h
    rw [e4, e5]
    exact pk_le 5 5 (fun _ => H) (fun z => absurd z (by omega))
  · intro n i s hi h hw
    subst h
    refine pk_le 5 i (fun z => absurd z (by omega)) (fun _ => ?_)
    rw [nI_clamp (show i < 2 ^ 31 by omega)]
    exact ⟨vp_in_nI hi (by decide), nm_r zq_of0 (zq_71 hm hi (hw (zq_mf B B0 (5 * i + 5), zq_bf B B0 i 5) (Prod.ext rfl (zq_of5 hi))))⟩
theorem zq_T3z {B j : Nat} (hB : B < 2 ^ 25) (hj : 25 ≤ j) : zq_T3 B j = 0 := by
  show nI (zq_b B j) = 0
  unfold zq_b
  rw [Nat.shiftRight_eq_div_pow, Nat.div_eq_of_lt (Nat.lt_of_lt_of_le hB (Nat.pow_le_pow_right (by decide) hj))]
  rfl
theorem zq_T30 : zq_T3 0 = fun _ => 0 := by
  funext j
  show nI (zq_b 0 j) = 0
  unfold zq_b
  rw [Nat.zero_shiftRight]
  rfl
theorem zq_countAll {post : St2 → Prop} {c1 : Int32} {cc : Int32} {a6 a7 a8 a9 a10 a11 a12 a13 a14 a15 a16 a17 : Nat → Int32} {t B B0 : Nat} (hm : (t, B) ∈ zq_TL) (hB : B0 < 2 ^ 25) (h1 : c1 = 0 ∨ (c1 = 1 ∧ B0 = B)) (H : post (nI (zq_cn t), 1, cc, (zq_T1 t), (zq_T2 t), (zq_T3 B), (zq_T4 B), (zq_T5 B), a6, a7, a8, a9, a10, a11, a12, a13, a14, a15, a16, a17)) : wpX_countAll post (nI (zq_cn t), c1, cc, (zq_T1 t), (zq_T2 t), zq_T3 B0, zq_T4 B0, zq_T5 B0, a6, a7, a8, a9, a10, a11, a12, a13, a14, a15, a16, a17) := by
  rcases h1 with rfl | ⟨rfl, rfl⟩
  · refine br_t rfl ?_
    refine pk_loop (fun n i s => wX_countAll_15 post (nI (zq_cn t)) 1 cc n (nI i) (zq_T1 t) (zq_T2 t) s (zq_T4 B0) (zq_T5 B0) a6 a7 a8 a9 a10 a11 a12 a13 a14 a15 a16 a17) (fun i s => ∀ j, (j < i ∨ 25 ≤ j) → s j = (fun _ => (0 : Int32)) j) 25 0 (zq_T3 B0) (by omega) (fun j hj => zq_T3z hB (by omega)) ?_ ?_
    · intro n s h
      have e : s = zq_T3 0 := by
        rw [zq_T30]
        exact funext (fun j => h j (by omega))
      subst e
      refine pk_le 25 25 (fun _ => ?_) (fun z => absurd z (by omega))
      by_cases ht : t < 3125
      · have ec : zq_cn t = 1 := if_pos ht
        rw [ec] at H ⊢
        exact ⟨2, br_f (by decide) (zq_cb hm ht (nm_e (br_t (by decide) (zq_57 hm H))))⟩
      · have ec : zq_cn t = 0 := if_neg ht
        have eb : B = 0 := by
          have f : zq_all (fun t B => (decide (t < 3125) || B == 0)) = true := by decide +kernel
          have := zq_allI f hm
          rw [Bool.or_eq_true, decide_eq_true_iff] at this
          rcases this with h | h
          · exact absurd h ht
          · exact eq_of_beq h
        subst eb
        rw [ec] at H ⊢
        exact ⟨1, br_t (by decide) (zq_57 hm H)⟩
    · intro n i s hi h hw
      exact pk_le 25 i (fun z => absurd z (by omega)) (fun _ => ⟨pk_in i 25 hi, nm_e (nm_r (nI_1 i) (hw _ (zq_fillO (nI_clamp (by omega)) h rfl)))⟩)
  · exact br_f (by decide) H
end
section
-- part 04: findScores, greatestScores
theorem zq_cn1 {t : Nat} (ht : t < 3125) : zq_cn t = 1 := if_pos ht
theorem zq_cn0 {t : Nat} (ht : ¬ t < 3125) : zq_cn t = 0 := if_neg ht
theorem zq_s0 {t r c : Nat} (ht : ¬ t < 3125) (hr : r ≠ 3) : zq_sc t r c = 0 := by
  unfold zq_sc
  rw [if_neg ht, if_neg hr]
def zq_Q0 (t : Nat) : Bool := decide (3125 ≤ t) || (zq_rg 5 (fun c => (if c = zq_d t 0 then (0 : Int32) + 1 else 0) == zq_sc t 0 c) && zq_rg 5 (fun c => (if c = zq_d t 0 then (0 : Int32) + 1 else 0) == zq_sc t 5 c) && zq_rg 5 (fun c => (if c = zq_d t 4 then (0 : Int32) + (-1) else 0) == zq_sc t 1 c))
theorem zq_F0 {t B : Nat} (hm : (t, B) ∈ zq_TL) (ht : t < 3125) {c : Nat} (hc : c < 5) : (if c = zq_d t 0 then (0 : Int32) + 1 else 0) = zq_sc t 0 c ∧ (if c = zq_d t 0 then (0 : Int32) + 1 else 0) = zq_sc t 5 c ∧ (if c = zq_d t 4 then (0 : Int32) + (-1) else 0) = zq_sc t 1 c := by
  have f : zq_all (fun t _ => zq_Q0 t) = true := by decide +kernel
  have h : zq_Q0 t = true := zq_allI f hm
  unfold zq_Q0 at h
  rw [Bool.or_eq_true, decide_eq_true_iff, Bool.and_eq_true, Bool.and_eq_true] at h
  rcases h with h | h
  · omega
  · exact ⟨eq_of_beq (zq_rgI h.1.1 hc), eq_of_beq (zq_rgI h.1.2 hc), eq_of_beq (zq_rgI h.2 hc)⟩
theorem zq_upd1 {s f : Nat → Int32} {q : Nat} {v : Int32} (h : ∀ j, j < 5 → s j = (fun _ => (0 : Int32)) j) (hq : q < 5) (hf : ∀ c, c < 5 → (if c = q then (0 : Int32) + v else 0) = f c) : ∀ c, c < 5 → upd s q (s q + v) c = f c := by
  intro c hc
  rw [← hf c hc]
  by_cases e : c = q
  · rw [e, pk_us, if_pos rfl, h q hq]
  · rw [pk_un e, if_neg e]
    exact h c hc
theorem zq_31 {post : St2 → Prop} {cc : Int32} {a6 a7 a8 a9 a10 a11 a12 a13 a14 a15 a16 a17 : Nat → Int32} {t B r : Nat} (hm : (t, B) ∈ zq_TL) (hr : r = 0 ∨ r = 1) (h0 : ∀ j, j < 5 → a6 j = (fun _ => (0 : Int32)) j) (H : ∀ s, (∀ c, c < 5 → s c = zq_sc t r c) → post (nI (zq_cn t), 1, cc, (zq_T1 t), (zq_T2 t), (zq_T3 B), (zq_T4 B), (zq_T5 B), s, a7, a8, a9, a10, a11, a12, a13, a14, a15, a16, a17)) : ∃ n, wX_findScores_31 post (nI r) (nI (zq_cn t)) 1 cc n 0 (zq_T1 t) (zq_T2 t) (zq_T3 B) (zq_T4 B) (zq_T5 B) a6 a7 a8 a9 a10 a11 a12 a13 a14 a15 a16 a17 := by
  by_cases ht : t < 3125
  · have d0 := zq_dlt t 0
    have d4 := zq_dlt t 4
    have e0 : zq_T2 t (((5 : Int32) * 0) + 0).toNatClampNeg = nI (zq_d t 0) := by
      rw [show (((5 : Int32) * 0) + 0) = nI 0 from by decide, nI_clamp (by decide), zq_T2e ht (by decide)]
    have e4 : zq_T2 t (((5 : Int32) * 0) + 4).toNatClampNeg = nI (zq_d t 4) := by
      rw [show (((5 : Int32) * 0) + 4) = nI 4 from by decide, nI_clamp (by decide), zq_T2e ht (by decide)]
    rw [zq_cn1 ht] at H ⊢
    rcases hr with rfl | rfl
    · refine ⟨2, br_f (by decide) (br_t rfl ?_)⟩
      unfold wX_findScores_59
      rw [e0, nI_clamp (show zq_d t 0 < 2 ^ 31 by omega)]
      exact ⟨pk_in 0 45 (by decide) (by decide), vp_in_nI (by omega) (by decide), br_t rfl ⟨vp_in_nI (by omega) (by decide), nm_e (nm_e (br_t (by decide) (H _ (zq_upd1 h0 (by omega) (fun c hc => (zq_F0 hm ht hc).1)))))⟩⟩
    · refine ⟨2, br_f (by decide) (br_f (by decide) ?_)⟩
      unfold wX_findScores_59
      rw [e4, nI_clamp (show zq_d t 4 < 2 ^ 31 by omega)]
      exact ⟨pk_in 4 45 (by decide) (by decide), vp_in_nI (by omega) (by decide), br_f (by decide) ⟨vp_in_nI (by omega) (by decide), nm_e (nm_e (br_t (by decide) (H _ (zq_upd1 h0 (by omega) (fun c hc => (zq_F0 hm ht hc).2.2)))))⟩⟩
  · rw [zq_cn0 ht] at H ⊢
    exact ⟨1, br_t (by decide) (H _ (fun c hc => by rw [zq_s0 ht (by omega)]; exact h0 c hc))⟩
theorem zq_cAF0 {post : St2 → Prop} {cc : Int32} {a6 a7 a8 a9 a10 a11 a12 a13 a14 a15 a16 a17 : Nat → Int32} {t B : Nat} (ht : ¬ t < 3125) (x1 : Int32) (H : ∀ s, (∀ j, j < 5 → s j = (fun _ => (0 : Int32)) j) → post (nI (zq_cn t), 1, cc, (zq_T1 t), (zq_T2 t), (zq_T3 B), (zq_T4 B), (zq_T5 B), s, a7, a8, a9, a10, a11, a12, a13, a14, a15, a16, a17)) : wpX_countAmongFirst post (nI (zq_cn t), 1, cc, (zq_T1 t), (zq_T2 t), (zq_T3 B), (zq_T4 B), (zq_T5 B), a6, a7, a8, a9, a10, a11, a12, a13, a14, a15, a16, a17) x1 := by
  refine pk_loop (fun n i s => wX_countAmongFirst_2 post x1 (nI (zq_cn t)) 1 cc n (nI i) (zq_T1 t) (zq_T2 t) (zq_T3 B) (zq_T4 B) (zq_T5 B) s a7 a8 a9 a10 a11 a12 a13 a14 a15 a16 a17) (fun i s => ∀ j, j < i → s j = (fun _ => (0 : Int32)) j) 5 0 a6 (by omega) (fun j hj => absurd hj (by omega)) ?_ ?_
  · intro n s h
    refine pk_le 5 5 (fun _ => ⟨1, ?_⟩) (fun z => absurd z (by omega))
    refine br_t ?_ (H s h)
    rw [zq_cn0 ht]
    decide
  · intro n i s hi h hw
    exact pk_le 5 i (fun z => absurd z (by omega)) (fun _ => ⟨pk_in i 5 hi, nm_e (nm_r (nI_1 i) (hw _ (zq_fill (nI_clamp (by omega)) h rfl)))⟩)
theorem zq_cAF1 {post : St2 → Prop} {cc : Int32} {a6 a7 a8 a9 a10 a11 a12 a13 a14 a15 a16 a17 : Nat → Int32} {t B : Nat} (hm : (t, B) ∈ zq_TL) (ht : t < 3125) (H : ∀ s, (∀ c, c < 5 → s c = zq_sc t 5 c) → post (nI (zq_cn t), 1, cc, (zq_T1 t), (zq_T2 t), (zq_T3 B), (zq_T4 B), (zq_T5 B), s, a7, a8, a9, a10, a11, a12, a13, a14, a15, a16, a17)) : wpX_countAmongFirst post (nI (zq_cn t), 1, cc, (zq_T1 t), (zq_T2 t), (zq_T3 B), (zq_T4 B), (zq_T5 B), a6, a7, a8, a9, a10, a11, a12, a13, a14, a15, a16, a17) 1 := by
  rw [zq_cn1 ht] at H ⊢
  refine pk_loop (fun n i s => wX_countAmongFirst_2 post 1 (nI 1) 1 cc n (nI i) (zq_T1 t) (zq_T2 t) (zq_T3 B) (zq_T4 B) (zq_T5 B) s a7 a8 a9 a10 a11 a12 a13 a14 a15 a16 a17) (fun i s => ∀ j, j < i → s j = (fun _ => (0 : Int32)) j) 5 0 a6 (by omega) (fun j hj => absurd hj (by omega)) ?_ ?_
  · intro n s h
    refine pk_le 5 5 (fun _ => ⟨2, br_f (by decide) ⟨2, br_f (by decide) ?_⟩⟩) (fun z => absurd z (by omega))
    have d0 := zq_dlt t 0
    have e0 : zq_T2 t (((5 : Int32) * 0) + 0).toNatClampNeg = nI (zq_d t 0) := by
      rw [show (((5 : Int32) * 0) + 0) = nI 0 from by decide, nI_clamp (by decide), zq_T2e ht (by decide)]
    rw [e0, nI_clamp (show zq_d t 0 < 2 ^ 31 by omega)]
    exact ⟨pk_in 0 45 (by decide) (by decide), vp_in_nI (by omega) (by decide), vp_in_nI (by omega) (by decide), nm_e (nm_e (br_t (by decide) (nm_e (br_t (by decide) (H _ (zq_upd1 h (by omega) (fun c hc => (zq_F0 hm ht hc).2.1)))))))⟩
  · intro n i s hi h hw
    exact pk_le 5 i (fun z => absurd z (by omega)) (fun _ => ⟨pk_in i 5 hi, nm_e (nm_r (nI_1 i) (hw _ (zq_fill (nI_clamp (by omega)) h rfl)))⟩)
theorem zq_F5 {t B : Nat} (hm : (t, B) ∈ zq_TL) (ht : t < 3125) : zm_hasHalf (fun r => r == 1) (nI 1) (fun c => zq_sc t 5 c) = true := by
  have f : zq_all (fun t _ => decide (3125 ≤ t) || zm_hasHalf (fun r => r == 1) (nI 1) (fun c => zq_sc t 5 c)) = true := by decide +kernel
  have h := zq_allI f hm
  rw [Bool.or_eq_true, decide_eq_true_iff] at h
  rcases h with h | h
  · omega
  · exact h
theorem zq_F2 {t B : Nat} (hm : (t, B) ∈ zq_TL) {c : Nat} (hc : c < 5) : zm_pointsOf (fun r => r == zq_sc t 2 c) (zq_T3 B) (nI c) 31 = true := by
  have f : zq_all (fun t B => zq_rg 5 (fun c => zm_pointsOf (fun r => r == zq_sc t 2 c) (zq_T3 B) (nI c) 31)) = true := by decide +kernel
  exact zq_rgI (zq_allI f hm) hc
theorem zq_F3 {t B : Nat} (hm : (t, B) ∈ zq_TL) {c : Nat} (hc : c < 5) : zm_copeland (fun r => r == zq_sc t 3 c) (zq_T4 B) (nI c) = true := by
  have f : zq_all (fun t B => zq_rg 5 (fun c => zm_copeland (fun r => r == zq_sc t 3 c) (zq_T4 B) (nI c))) = true := by decide +kernel
  exact zq_rgI (zq_allI f hm) hc
theorem zq_F4 {t B : Nat} (hm : (t, B) ∈ zq_TL) {c : Nat} (hc : c < 5) : zm_smallestMargin (fun r => r == zq_sc t 4 c) (zq_T4 B) (nI c) = true := by
  have f : zq_all (fun t B => zq_rg 5 (fun c => zm_smallestMargin (fun r => r == zq_sc t 4 c) (zq_T4 B) (nI c))) = true := by decide +kernel
  exact zq_rgI (zq_allI f hm) hc
theorem zq_123 {post : St2 → Prop} {cc : Int32} {a6 a7 a8 a9 a10 a11 a12 a13 a14 a15 a16 a17 : Nat → Int32} {t B r : Nat} (hm : (t, B) ∈ zq_TL) (hr : r = 2 ∨ r = 3 ∨ r = 4) (H : ∀ s, (∀ c, c < 5 → s c = zq_sc t r c) → post (nI (zq_cn t), 1, cc, (zq_T1 t), (zq_T2 t), (zq_T3 B), (zq_T4 B), (zq_T5 B), s, a7, a8, a9, a10, a11, a12, a13, a14, a15, a16, a17)) : ∃ n, wX_findScores_123 post (nI r) (nI (zq_cn t)) 1 cc n 0 (zq_T1 t) (zq_T2 t) (zq_T3 B) (zq_T4 B) (zq_T5 B) a6 a7 a8 a9 a10 a11 a12 a13 a14 a15 a16 a17 := by
  refine pk_loop (fun n i s => wX_findScores_123 post (nI r) (nI (zq_cn t)) 1 cc n (nI i) (zq_T1 t) (zq_T2 t) (zq_T3 B) (zq_T4 B) (zq_T5 B) s a7 a8 a9 a10 a11 a12 a13 a14 a15 a16 a17) (fun i s => ∀ j, j < i → s j = zq_sc t r j) 5 0 a6 (by omega) (fun j hj => absurd hj (by omega)) ?_ ?_
  · intro n s h
    exact pk_le 5 5 (fun _ => H s h) (fun z => absurd z (by omega))
  · intro n i s hi h hw
    refine pk_le 5 i (fun z => absurd z (by omega)) (fun _ => ?_)
    rcases hr with rfl | rfl | rfl
    · exact br_t rfl (zq_s_pointsOf (zq_F2 hm hi) (zq_eqk ⟨pk_in i 5 hi, nm_e (nm_r (nI_1 i) (hw _ (zq_fill (f := zq_sc t 2) (nI_clamp (by omega)) h rfl)))⟩))
    · exact br_f (by decide) (br_t rfl (zq_s_copeland (zq_F3 hm hi) (zq_eqk ⟨pk_in i 5 hi, nm_e (nm_r (nI_1 i) (hw _ (zq_fill (f := zq_sc t 3) (nI_clamp (by omega)) h rfl)))⟩)))
    · exact br_f (by decide) (br_f (by decide) (zq_s_smallestMargin (zq_F4 hm hi) (zq_eqk ⟨pk_in i 5 hi, nm_e (nm_r (nI_1 i) (hw _ (zq_fill (f := zq_sc t 4) (nI_clamp (by omega)) h rfl)))⟩)))
theorem zq_hh0 : zm_hasHalf (fun r => r == 0) (nI 0) (fun _ => 0) = true := by decide +kernel
theorem zq_findScores {post : St2 → Prop} {cc : Int32} {a6 a7 a8 a9 a10 a11 a12 a13 a14 a15 a16 a17 : Nat → Int32} {t B r : Nat} (hm : (t, B) ∈ zq_TL) (hr : r ≤ 5) (H : ∀ s, (∀ c, c < 5 → s c = zq_sc t r c) → post (nI (zq_cn t), 1, cc, (zq_T1 t), (zq_T2 t), (zq_T3 B), (zq_T4 B), (zq_T5 B), s, a7, a8, a9, a10, a11, a12, a13, a14, a15, a16, a17)) : wpX_findScores post (nI (zq_cn t), 1, cc, (zq_T1 t), (zq_T2 t), (zq_T3 B), (zq_T4 B), (zq_T5 B), a6, a7, a8, a9, a10, a11, a12, a13, a14, a15, a16, a17) (nI r) := by
  refine pk_loop (fun n i s => wX_findScores_2 post (nI r) (nI (zq_cn t)) 1 cc n (nI i) (zq_T1 t) (zq_T2 t) (zq_T3 B) (zq_T4 B) (zq_T5 B) s a7 a8 a9 a10 a11 a12 a13 a14 a15 a16 a17) (fun i s => ∀ j, j < i → s j = (fun _ => (0 : Int32)) j) 5 0 a6 (by omega) (fun j hj => absurd hj (by omega)) ?_ ?_
  · intro n s h
    refine pk_le 5 5 (fun _ => pk_eq r 0 (fun z => ?_) (fun z => pk_eq r 1 (fun z => ?_) (fun z => pk_eq r 5 (fun z => ?_) (fun z => ?_)))) (fun z => absurd z (by omega))
    · exact zq_31 hm (Or.inl z) h H
    · exact zq_31 hm (Or.inr z) h H
    · subst z
      by_cases ht : t < 3125
      · refine zq_cAF1 hm ht (fun s' hs => ⟨1, br_f (by decide) ?_⟩)
        rw [zq_cn1 ht] at H ⊢
        exact zq_s_hasHalf (zq_F5 hm ht) (zq_eqk (br_f (by decide) (H s' hs))) hs
      · refine zq_cAF0 ht 1 (fun s' hs => ?_)
        refine pk_loop (fun n i s => wX_findScores_95 post n (nI i) (nI (zq_cn t)) 1 cc (zq_T1 t) (zq_T2 t) (zq_T3 B) (zq_T4 B) (zq_T5 B) s a7 a8 a9 a10 a11 a12 a13 a14 a15 a16 a17) (fun i s => ∀ j, j < 5 → s j = (fun _ => (0 : Int32)) j) 5 1 s' (by omega) hs ?_ ?_
        · intro n s h
          exact pk_le 5 5 (fun _ => H s (fun c hc => by rw [zq_s0 ht (by omega)]; exact h c hc)) (fun z => absurd z (by omega))
        · intro n i s hi h hw
          refine pk_le 5 i (fun z => absurd z (by omega)) (fun _ => ?_)
          have e := zq_hh0
          rw [← zq_cn0 ht] at e
          exact zq_s_hasHalf e (zq_eqk (br_t rfl (nm_r (nI_1 i) (zq_cAF0 ht _ (fun s' hs' => hw s' hs'))))) h
    · exact zq_123 hm (by omega) H
  · intro n i s hi h hw
    exact pk_le 5 i (fun z => absurd z (by omega)) (fun _ => ⟨pk_in i 5 hi, nm_e (nm_r (nI_1 i) (hw _ (zq_fill (nI_clamp (by omega)) h rfl)))⟩)
theorem zq_FG {t B : Nat} (hm : (t, B) ∈ zq_TL) {r : Nat} (hr : r ≤ 5) : zm_greatestScores_14 (fun y => y == nI (zq_win t r)) (fun c => zq_sc t r c) 40 0 (-1000) 0 = true := by
  have f : zq_all (fun t _ => zq_rg 6 (fun r => zm_greatestScores_14 (fun y => y == nI (zq_win t r)) (fun c => zq_sc t r c) 40 0 (-1000) 0)) = true := by decide +kernel
  exact zq_rgI (zq_allI f hm) (Nat.lt_succ_of_le hr)
theorem zq_eqk2 {post : Int32 → St2 → Prop} {v : Int32} {u : St2} (H : post v u) : ∀ y, (y == v) = true → post y u := fun y h => (eq_of_beq h) ▸ H
theorem zq_greatest {post : Int32 → St2 → Prop} {cc : Int32} {a6 a7 a8 a9 a10 a11 a12 a13 a14 a15 a16 a17 : Nat → Int32} {t B r : Nat} (hm : (t, B) ∈ zq_TL) (hr : r ≤ 5) (H : ∀ (cc : Int32) (a6 a7 a8 a9 a10 a11 a12 a13 a14 a15 a16 a17 : Nat → Int32), post (nI (zq_win t r)) (nI (zq_cn t), 1, cc, (zq_T1 t), (zq_T2 t), (zq_T3 B), (zq_T4 B), (zq_T5 B), a6, a7, a8, a9, a10, a11, a12, a13, a14, a15, a16, a17)) : wpX_greatestScores post (nI (zq_cn t), 1, cc, (zq_T1 t), (zq_T2 t), (zq_T3 B), (zq_T4 B), (zq_T5 B), a6, a7, a8, a9, a10, a11, a12, a13, a14, a15, a16, a17) (nI r) :=
  zq_findScores hm hr (fun s hs => ⟨40, zq_s_greatestScores_14 (zq_FG hm hr) (zq_eqk2 (H _ _ _ _ _ _ _ _ _ _ _ _ _)) hs⟩)
end
section
-- part 05: isIn, eliminations
theorem zq_sl : ∀ n, n < 32 → ((nI n &&& 31).toBitVec.smod 32).toNat = n := by decide +kernel
theorem zq_nor (a b : Nat) : nI a ||| nI b = nI (a ||| b) := by
  apply Int32.toBitVec_inj.1
  show BitVec.ofNat 32 a ||| BitVec.ofNat 32 b = BitVec.ofNat 32 (a ||| b)
  apply BitVec.eq_of_getLsbD_eq
  intro i hi
  simp [hi]
theorem zq_shb {m c : Nat} (hm : m < 2 ^ 31) (hc : c < 32) : ((nI m >>> (nI c &&& 31)) &&& 1) = nI (m / 2 ^ c % 2) := by
  rw [pk_shrN hm (nI c &&& 31) c (zq_sl c hc), pk_andN (Nat.lt_of_le_of_lt (Nat.div_le_self _ _) (by omega)) 1 (by decide)]
theorem zq_bit0 {m c : Nat} (hm : m < 2 ^ 31) (hc : c < 32) (h : m.testBit c = false) : ((nI m >>> (nI c &&& 31)) &&& 1) = 0 := by
  rw [zq_shb hm hc]
  rw [Nat.testBit_eq_decide_div_mod_eq, decide_eq_false_iff_not] at h
  rw [show m / 2 ^ c % 2 = 0 by omega]
  rfl
theorem zq_bit1 {m c : Nat} (hm : m < 2 ^ 31) (hc : c < 32) (h : m.testBit c = true) : ¬ ((nI m >>> (nI c &&& 31)) &&& 1) = 0 := by
  rw [zq_shb hm hc]
  rw [Nat.testBit_eq_decide_div_mod_eq, decide_eq_true_iff] at h
  rw [h]
  decide
theorem zq_isIn {post : Int32 → Prop} {c0 c1 cc : Int32} {a1 a2 a3 a4 a5 a6 a7 a8 a9 a10 a11 a12 a13 a14 a15 a16 a17 : Nat → Int32} {m c : Nat} (hm : m < 2 ^ 31) (hc : c < 32) (H0 : m.testBit c = false → post 0) (H1 : m.testBit c = true → post 1) : wpX_isIn post (c0, c1, cc, a1, a2, a3, a4, a5, a6, a7, a8, a9, a10, a11, a12, a13, a14, a15, a16, a17) (nI m) (nI c) := by
  cases h : m.testBit c with
  | false => exact br_t (zq_bit0 hm hc h) (H0 h)
  | true => exact br_f (zq_bit1 hm hc h) (H1 h)
def zq_pc (m : Nat) : Nat := m % 2 + m / 2 % 2 + m / 4 % 2 + m / 8 % 2 + m / 16 % 2
def zq_col (B c : Nat) : Nat := zq_b B c + 2 * zq_b B (5 + c) + 4 * zq_b B (10 + c) + 8 * zq_b B (15 + c) + 16 * zq_b B (20 + c)
def zq_ex (t w set c : Nat) : Int32 := if t < 3125 ∧ set &&& (w ||| 2 ^ c) = set then 1 else 0
def zq_es (t B r set c : Nat) : Int32 := if r = 6 then zq_ex t (zq_row B c) set c else if r = 7 then -(zq_ex t (zq_col B c) set c) else nI (zq_pc (set &&& zq_row B c))
noncomputable def zq_esQ (t B r set c : Nat) : Bool := if r = 6 then zm_extremeCount (fun y => y == zq_ex t (zq_row B c) set c) (nI (zq_cn t)) (zq_T3 B) (nI set) (nI c) 1 else if r = 7 then zm_extremeCount (fun y => y == zq_ex t (zq_col B c) set c) (nI (zq_cn t)) (zq_T3 B) (nI set) (nI c) 0 else zm_pointsOf (fun y => y == nI (zq_pc (set &&& zq_row B c))) (zq_T3 B) (nI c) (nI set)
def zq_mn (t B r set : Nat) : Nat → Int32
  | 0 => 1000
  | c + 1 => if set.testBit c = true then (if zq_mn t B r set c ≤ zq_es t B r set c then zq_mn t B r set c else zq_es t B r set c) else zq_mn t B r set c
def zq_em (t B r set M : Nat) : Nat → Nat
  | 0 => M
  | c + 1 => if set.testBit c = true ∧ zq_es t B r set c = zq_mn t B r set 5 then zq_em t B r set M c ||| 2 ^ (set - 2 ^ c) else zq_em t B r set M c
noncomputable def zq_el (t B r : Nat) : Nat → Nat → Nat → Bool
  | 0, _, R => R == zq_win t r
  | s + 1, M, R => if zq_b M (s + 1) = 0 then zq_el t B r s M R else if (s + 1) &&& s = 0 then zq_el t B r s M (R ||| (s + 1)) else (zq_rg 5 (fun c => !((s + 1).testBit c) || zq_esQ t B r (s + 1) c) && zq_el t B r s (zq_em t B r (s + 1) M 5) R)
theorem zq_elF {t B : Nat} (hm : (t, B) ∈ zq_TL) {r : Nat} (hr : r = 6 ∨ r = 7 ∨ r = 8) : zq_el t B r 31 (2 ^ 31) 0 = true := by
  have f6 : zq_all (fun t B => zq_el t B 6 31 (2 ^ 31) 0) = true := by decide +kernel
  have f7 : zq_all (fun t B => zq_el t B 7 31 (2 ^ 31) 0) = true := by decide +kernel
  have f8 : zq_all (fun t B => zq_el t B 8 31 (2 ^ 31) 0) = true := by decide +kernel
  rcases hr with rfl | rfl | rfl
  · exact zq_allI f6 hm
  · exact zq_allI f7 hm
  · exact zq_allI f8 hm
end
section
-- part 06: eliminate, byElimination
theorem zq_74 {post : St2 → Prop} {J : Int32 → Int32 → (Nat → Int32) → (Nat → Int32) → (Nat → Int32) → (Nat → Int32) → (Nat → Int32) → (Nat → Int32) → (Nat → Int32) → (Nat → Int32) → (Nat → Int32) → (Nat → Int32) → (Nat → Int32) → (Nat → Int32) → (Nat → Int32) → (Nat → Int32) → (Nat → Int32) → (Nat → Int32) → (Nat → Int32) → Prop} {c0 c1 cc : Int32} {a1 a2 a3 a4 a5 a6 a7 a8 a9 a10 a11 a12 a13 a14 a15 a16 a17 : Nat → Int32} {x1 x2 x3 z0 : Int32} {i : Nat} (hi : i < 5) (H1 : x3 ≤ z0 → J x3 (nI (i + 1)) a1 a2 a3 a4 a5 (upd a6 i z0) a7 a8 a9 a10 a11 a12 a13 a14 a15 a16 a17) (H2 : ¬ x3 ≤ z0 → J z0 (nI (i + 1)) a1 a2 a3 a4 a5 (upd a6 i z0) a7 a8 a9 a10 a11 a12 a13 a14 a15 a16 a17) : wX_eliminate_74 post J x1 x2 x3 (nI i) z0 (nI i) c0 c1 cc a1 a2 a3 a4 a5 a6 a7 a8 a9 a10 a11 a12 a13 a14 a15 a16 a17 := by
  unfold wX_eliminate_74
  rw [nI_clamp (show i < 2 ^ 31 by omega)]
  refine ⟨vp_in_nI hi (by decide), nm_e ?_⟩
  rw [pk_us]
  exact ⟨vp_in_nI hi (by decide), br_c (fun z => nm_r (nI_1 i) (H1 z)) (fun z => ⟨vp_in_nI hi (by decide), nm_e (nm_r (nI_1 i) (H2 z))⟩)⟩
theorem zq_clr : ∀ s, s < 32 → ∀ c, c < 5 → s.testBit c = true → (nI s &&& (((1 : Int32) <<< (nI c &&& 31)) ^^^ (-1))) = nI (s - 2 ^ c) := by decide +kernel
theorem zq_T3u {s : Nat → Int32} {M q : Nat} (h : ∀ j, j < 32 → s j = zq_T3 M j) : ∀ j, j < 32 → upd s q 1 j = zq_T3 (M ||| 2 ^ q) j := by
  intro j hj
  show _ = nI (zq_b (M ||| 2 ^ q) j)
  rw [zq_orb]
  by_cases e : j = q
  · rw [e, pk_us, if_pos rfl]
    rfl
  · rw [pk_un e, if_neg e]
    exact h j hj
theorem zq_103 {post : St2 → Prop} {cc : Int32} {a6 a7 a8 a9 a10 a11 a12 a13 a14 a15 a16 a17 : Nat → Int32} {t B r set M : Nat} (hs : set < 32) (h6 : ∀ c, c < 5 → set.testBit c = true → a6 c = zq_es t B r set c) (h7 : ∀ j, j < 32 → a7 j = zq_T3 M j) (H : ∀ s7, (∀ j, j < 32 → s7 j = zq_T3 (zq_em t B r set M 5) j) → post (nI (zq_cn t), 1, cc, (zq_T1 t), (zq_T2 t), (zq_T3 B), (zq_T4 B), (zq_T5 B), a6, s7, a8, a9, a10, a11, a12, a13, a14, a15, a16, a17)) : ∃ n, wX_eliminate_103 post (nI set) (zq_mn t B r set 5) (nI (zq_cn t)) 1 cc n 0 (zq_T1 t) (zq_T2 t) (zq_T3 B) (zq_T4 B) (zq_T5 B) a6 a7 a8 a9 a10 a11 a12 a13 a14 a15 a16 a17 := by
  refine pk_loop (fun n i s => wX_eliminate_103 post (nI set) (zq_mn t B r set 5) (nI (zq_cn t)) 1 cc n (nI i) (zq_T1 t) (zq_T2 t) (zq_T3 B) (zq_T4 B) (zq_T5 B) a6 s a8 a9 a10 a11 a12 a13 a14 a15 a16 a17) (fun i s => ∀ j, j < 32 → s j = zq_T3 (zq_em t B r set M i) j) 5 0 a7 (by omega) h7 ?_ ?_
  · intro n s h
    exact pk_le 5 5 (fun _ => H s h) (fun z => absurd z (by omega))
  · intro n i s hi h hw
    refine pk_le 5 i (fun z => absurd z (by omega)) (fun _ => zq_isIn (by omega) (by omega) (fun hb => br_t rfl (nm_r (nI_1 i) (hw s ?_))) (fun hb => br_f (by decide) ⟨pk_in i 5 hi, ?_⟩))
    · have e : zq_em t B r set M (i + 1) = zq_em t B r set M i := if_neg (fun z => by rw [hb] at z; exact absurd z.1 Bool.false_ne_true)
      rw [e]
      exact h
    · have hd : set - 2 ^ i < 32 := Nat.lt_of_le_of_lt (Nat.sub_le _ _) hs
      rw [nI_clamp (show i < 2 ^ 31 by omega), h6 i hi hb, zq_clr set hs i hi hb, nI_clamp (Nat.lt_trans hd (by decide))]
      refine br_c (fun z => ⟨vp_in_nI hd (by decide), nm_e (nm_r (nI_1 i) (hw _ ?_))⟩) (fun z => nm_r (nI_1 i) (hw s ?_))
      · have e : zq_em t B r set M (i + 1) = zq_em t B r set M i ||| 2 ^ (set - 2 ^ i) := if_pos ⟨hb, z⟩
        rw [e]
        exact zq_T3u h
      · have e : zq_em t B r set M (i + 1) = zq_em t B r set M i := if_neg (fun y => z y.2)
        rw [e]
        exact h
theorem zq_es6 {s : Nat → Int32} {t B r set i : Nat} (h : ∀ c, c < i → set.testBit c = true → s c = zq_es t B r set c) : ∀ c, c < i + 1 → set.testBit c = true → upd s i (zq_es t B r set i) c = zq_es t B r set c := by
  intro c hc hb
  by_cases e : c = i
  · rw [e, pk_us]
  · rw [pk_un e]
    exact h c (by omega) hb
theorem zq_elim {post : St2 → Prop} {cc : Int32} {a6 a7 a8 a9 a10 a11 a12 a13 a14 a15 a16 a17 : Nat → Int32} {t B r set M : Nat} (hr : r = 6 ∨ r = 7 ∨ r = 8) (hs : set < 32) (hq : zq_rg 5 (fun c => !(set.testBit c) || zq_esQ t B r set c) = true) (h7 : ∀ j, j < 32 → a7 j = zq_T3 M j) (H : ∀ s6 s7, (∀ j, j < 32 → s7 j = zq_T3 (zq_em t B r set M 5) j) → post (nI (zq_cn t), 1, cc, (zq_T1 t), (zq_T2 t), (zq_T3 B), (zq_T4 B), (zq_T5 B), s6, s7, a8, a9, a10, a11, a12, a13, a14, a15, a16, a17)) : wpX_eliminate post (nI (zq_cn t), 1, cc, (zq_T1 t), (zq_T2 t), (zq_T3 B), (zq_T4 B), (zq_T5 B), a6, a7, a8, a9, a10, a11, a12, a13, a14, a15, a16, a17) (nI r) (nI set) := by
  refine pk_loop (σ := Int32 × (Nat → Int32)) (fun n i s => wX_eliminate_7 post (nI r) (nI set) (nI (zq_cn t)) 1 cc n s.1 (nI i) (zq_T1 t) (zq_T2 t) (zq_T3 B) (zq_T4 B) (zq_T5 B) s.2 a7 a8 a9 a10 a11 a12 a13 a14 a15 a16 a17) (fun i s => s.1 = zq_mn t B r set i ∧ ∀ c, c < i → set.testBit c = true → s.2 c = zq_es t B r set c) 5 0 (1000, a6) (by omega) ⟨rfl, fun c hc => absurd hc (by omega)⟩ ?_ ?_
  · intro n s h
    obtain ⟨s1, s2⟩ := s
    obtain ⟨h1, h2⟩ := h
    dsimp only at h1 h2
    subst h1
    exact pk_le 5 5 (fun _ => zq_103 hs h2 h7 (fun s7 h => H s2 s7 h)) (fun z => absurd z (by omega))
  · intro n i s hi h hw
    obtain ⟨s1, s2⟩ := s
    obtain ⟨h1, h2⟩ := h
    dsimp only at h1 h2
    subst h1
    refine pk_le 5 i (fun z => absurd z (by omega)) (fun _ => zq_isIn (by omega) (by omega) (fun hb => br_t rfl (nm_r (nI_1 i) (hw (_, s2) ⟨?_, ?_⟩))) (fun hb => br_f (by decide) ?_))
    · show zq_mn t B r set i = zq_mn t B r set (i + 1)
      exact (if_neg (fun z => by rw [hb] at z; exact absurd z Bool.false_ne_true)).symm
    · intro c hc hb'
      by_cases e : c = i
      · rw [e, hb] at hb'
        exact absurd hb' Bool.false_ne_true
      · exact h2 c (by omega) hb'
    · have q := zq_rgI hq hi
      rw [hb] at q
      have q' : zq_esQ t B r set i = true := q
      have em : zq_mn t B r set (i + 1) = if zq_mn t B r set i ≤ zq_es t B r set i then zq_mn t B r set i else zq_es t B r set i := if_pos hb
      have K : ∀ z0, z0 = zq_es t B r set i → wX_eliminate_74 post (wX_eliminate_7 post (nI r) (nI set) (nI (zq_cn t)) 1 cc n) (nI r) (nI set) (zq_mn t B r set i) (nI i) z0 (nI i) (nI (zq_cn t)) 1 cc (zq_T1 t) (zq_T2 t) (zq_T3 B) (zq_T4 B) (zq_T5 B) s2 a7 a8 a9 a10 a11 a12 a13 a14 a15 a16 a17 := by
        intro z0 ez
        subst ez
        exact zq_74 hi (fun z => hw (zq_mn t B r set i, upd s2 i (zq_es t B r set i)) ⟨by show zq_mn t B r set i = zq_mn t B r set (i + 1); rw [em, if_pos z], zq_es6 h2⟩) (fun z => hw (zq_es t B r set i, upd s2 i (zq_es t B r set i)) ⟨by show zq_es t B r set i = zq_mn t B r set (i + 1); rw [em, if_neg z], zq_es6 h2⟩)
      rcases hr with rfl | rfl | rfl
      · unfold zq_esQ at q'
        rw [if_pos rfl] at q'
        have e : zq_es t B 6 set i = zq_ex t (zq_row B i) set i := if_pos rfl
        exact br_t rfl (zq_s_extremeCount q' (zq_eqk (K (zq_ex t (zq_row B i) set i) e.symm)))
      · unfold zq_esQ at q'
        rw [if_neg (by decide), if_pos rfl] at q'
        have e : zq_es t B 7 set i = -(zq_ex t (zq_col B i) set i) := by
          unfold zq_es
          rw [if_neg (by decide), if_pos rfl]
        exact br_f (by decide) (br_t rfl (zq_s_extremeCount q' (zq_eqk (K (-(zq_ex t (zq_col B i) set i)) e.symm))))
      · unfold zq_esQ at q'
        rw [if_neg (by decide), if_neg (by decide)] at q'
        have e : zq_es t B 8 set i = nI (zq_pc (set &&& zq_row B i)) := by
          unfold zq_es
          rw [if_neg (by decide), if_neg (by decide)]
        exact br_f (by decide) (br_f (by decide) (zq_s_pointsOf q' (zq_eqk (K (nI (zq_pc (set &&& zq_row B i))) e.symm))))
theorem zq_and1 : ∀ s, s < 31 → (nI (s + 1) &&& (nI (s + 1) - 1)) = nI ((s + 1) &&& s) := by decide +kernel
theorem zq_34 {post : Int32 → St2 → Prop} {cc : Int32} {a8 a9 a10 a11 a12 a13 a14 a15 a16 a17 : Nat → Int32} {t B r : Nat} (hr : r = 6 ∨ r = 7 ∨ r = 8) (H : ∀ a6 a7, post (nI (zq_win t r)) (nI (zq_cn t), 1, cc, (zq_T1 t), (zq_T2 t), (zq_T3 B), (zq_T4 B), (zq_T5 B), a6, a7, a8, a9, a10, a11, a12, a13, a14, a15, a16, a17)) : ∀ s, s < 32 → ∀ M R a6 a7, (∀ j, j < 32 → a7 j = zq_T3 M j) → zq_el t B r s M R = true → wX_byElimination_34 post (nI r) (s + 1) (nI R) (nI s) (nI (zq_cn t)) 1 cc (zq_T1 t) (zq_T2 t) (zq_T3 B) (zq_T4 B) (zq_T5 B) a6 a7 a8 a9 a10 a11 a12 a13 a14 a15 a16 a17 := by
  intro s
  induction s with
  | zero =>
    intro _ M R a6 a7 h7 he
    have e : R = zq_win t r := eq_of_beq he
    rw [e]
    exact br_t (by decide) (H a6 a7)
  | succ s ih =>
    intro hs M R a6 a7 h7 he
    refine br_f (nI_nle (by omega) (by omega)) ⟨pk_in (s + 1) 32 (by omega), ?_⟩
    rw [nI_clamp (show s + 1 < 2 ^ 31 by omega), h7 (s + 1) hs, zq_and1 s (by omega)]
    have he' : (if zq_b M (s + 1) = 0 then zq_el t B r s M R else if (s + 1) &&& s = 0 then zq_el t B r s M (R ||| (s + 1)) else (zq_rg 5 (fun c => !((s + 1).testBit c) || zq_esQ t B r (s + 1) c) && zq_el t B r s (zq_em t B r (s + 1) M 5) R)) = true := he
    have hl : (s + 1) &&& s < 2 ^ 31 := Nat.lt_of_le_of_lt Nat.and_le_left (by omega)
    have hb2 := zq_blt M (s + 1)
    show (nI (zq_b M (s + 1)) = 0 → _) ∧ _
    refine pk_eq (zq_b M (s + 1)) 0 (fun z => ?_) (fun z => pk_eq ((s + 1) &&& s) 0 (fun y => ?_) (fun y => ?_))
    · rw [if_pos z] at he'
      exact nm_r (pk_m1 s) (ih (by omega) M R a6 a7 h7 he')
    · rw [if_neg z, if_pos y] at he'
      exact nm_r (zq_nor R (s + 1)) (nm_r (pk_m1 s) (ih (by omega) M _ a6 a7 h7 he'))
    · rw [if_neg z, if_neg y, Bool.and_eq_true] at he'
      exact zq_elim hr hs he'.1 h7 (fun s6 s7 h => nm_r (pk_m1 s) (ih (by omega) _ R s6 s7 h he'.2))
theorem zq_byElim {post : Int32 → St2 → Prop} {cc : Int32} {a6 a7 a8 a9 a10 a11 a12 a13 a14 a15 a16 a17 : Nat → Int32} {t B r : Nat} (hm : (t, B) ∈ zq_TL) (hr : r = 6 ∨ r = 7 ∨ r = 8) (H : ∀ (cc : Int32) (a6 a7 a8 a9 a10 a11 a12 a13 a14 a15 a16 a17 : Nat → Int32), post (nI (zq_win t r)) (nI (zq_cn t), 1, cc, (zq_T1 t), (zq_T2 t), (zq_T3 B), (zq_T4 B), (zq_T5 B), a6, a7, a8, a9, a10, a11, a12, a13, a14, a15, a16, a17)) : wpX_byElimination post (nI (zq_cn t), 1, cc, (zq_T1 t), (zq_T2 t), (zq_T3 B), (zq_T4 B), (zq_T5 B), a6, a7, a8, a9, a10, a11, a12, a13, a14, a15, a16, a17) (nI r) := by
  refine pk_loop (fun n i s => wX_byElimination_2 post (nI r) (nI (zq_cn t)) 1 cc n (nI i) (zq_T1 t) (zq_T2 t) (zq_T3 B) (zq_T4 B) (zq_T5 B) a6 s a8 a9 a10 a11 a12 a13 a14 a15 a16 a17) (fun i s => ∀ j, j < i → s j = (fun _ => (0 : Int32)) j) 31 0 a7 (by omega) (fun j hj => absurd hj (by omega)) ?_ ?_
  · intro n s h
    refine pk_le 31 31 (fun _ => nm_e ⟨32, ?_⟩) (fun z => absurd z (by omega))
    refine zq_34 hr (fun a6 a7 => H _ _ _ _ _ _ _ _ _ _ _ _ _) 31 (by omega) (2 ^ 31) 0 a6 _ ?_ (zq_elF hm hr)
    intro j hj
    by_cases e : j = 31
    · rw [e, pk_us]
      decide
    · rw [pk_un e, h j (by omega)]
      have f : ∀ j, j < 31 → zq_T3 (2 ^ 31) j = 0 := by decide +kernel
      exact (f j (by omega)).symm
  · intro n i s hi h hw
    exact pk_le 31 i (fun z => absurd z (by omega)) (fun _ => ⟨pk_in i 32 (by omega), nm_e (nm_r (nI_1 i) (hw _ (zq_fill (nI_clamp (by omega)) h rfl)))⟩)
end
section
-- part 07: rules 9, 11, 12, 13, 14
def zq_T8 (B : Nat) : Nat → Int32 := fun j => if zq_T4 B j ≤ 0 then 0 else zq_T4 B j
theorem zq_T4n {B j : Nat} (hj : j < 25) : vp_nar .byte (zq_T4 B j) = zq_T4 B j := by
  rw [vp_nar_byte]
  unfold zq_T4
  rw [if_pos hj]
  exact zq_nar3 _ (zq_blt _ _) _ (zq_blt _ _)
def zq_FTQ (B : Nat) : Bool := zq_rg 5 (fun a => zq_rg 5 (fun b => zq_rg 5 (fun c => decide ((if zq_T8 B (5 * c + b) ≤ zq_T8 B (5 * a + c) then zq_T8 B (5 * c + b) else zq_T8 B (5 * a + c)) ≤ zq_T8 B (5 * a + b)))))
theorem zq_FT {t B : Nat} (hm : (t, B) ∈ zq_TL) {a b c : Nat} (ha : a < 5) (hb : b < 5) (hc : c < 5) : (if zq_T8 B (5 * c + b) ≤ zq_T8 B (5 * a + c) then zq_T8 B (5 * c + b) else zq_T8 B (5 * a + c)) ≤ zq_T8 B (5 * a + b) := by
  have f : zq_all (fun _ B => zq_FTQ B) = true := by decide +kernel
  exact of_decide_eq_true (zq_rgI (zq_rgI (zq_rgI (zq_allI f hm) ha) hb) hc)
theorem zq_66 {post : St2 → Prop} {J : Int32 → (Nat → Int32) → (Nat → Int32) → (Nat → Int32) → (Nat → Int32) → (Nat → Int32) → (Nat → Int32) → (Nat → Int32) → (Nat → Int32) → (Nat → Int32) → (Nat → Int32) → (Nat → Int32) → (Nat → Int32) → (Nat → Int32) → (Nat → Int32) → (Nat → Int32) → (Nat → Int32) → (Nat → Int32) → Prop} {c0 c1 cc : Int32} {a1 a2 a3 a4 a5 a6 a7 a8 a9 a10 a11 a12 a13 a14 a15 a16 a17 : Nat → Int32} {x2 z0 : Int32} {a b : Nat} (ha : a < 5) (hb : b < 5) (hz : z0 ≤ a8 (5 * a + b)) (H : J (nI (b + 1)) a1 a2 a3 a4 a5 a6 a7 a8 a9 a10 a11 a12 a13 a14 a15 a16 a17) : wX_passOver_66 post J (nI a) x2 (nI b) z0 c0 c1 cc a1 a2 a3 a4 a5 a6 a7 a8 a9 a10 a11 a12 a13 a14 a15 a16 a17 := by
  unfold wX_passOver_66
  rw [zq_55, nI_clamp (show 5 * a + b < 2 ^ 31 by omega)]
  exact ⟨vp_in_nI (by omega) (by decide), br_t hz (nm_r (nI_1 b) H)⟩
theorem zq_pass {post : St2 → Prop} {cc : Int32} {a6 a7 a8 a9 a10 a11 a12 a13 a14 a15 a16 a17 : Nat → Int32} {t B a c : Nat} (hm : (t, B) ∈ zq_TL) (ha : a < 5) (hc : c < 5) (h8 : ∀ j, j < 25 → a8 j = zq_T8 B j) (H : post (nI (zq_cn t), 1, cc, (zq_T1 t), (zq_T2 t), (zq_T3 B), (zq_T4 B), (zq_T5 B), a6, a7, a8, a9, a10, a11, a12, a13, a14, a15, a16, a17)) : wpX_passOver post (nI (zq_cn t), 1, cc, (zq_T1 t), (zq_T2 t), (zq_T3 B), (zq_T4 B), (zq_T5 B), a6, a7, a8, a9, a10, a11, a12, a13, a14, a15, a16, a17) (nI a) (nI c) := by
  refine pk_loop (σ := Unit) (fun n i _ => wX_passOver_2 post (nI a) (nI c) (nI (zq_cn t)) 1 cc n (nI i) (zq_T1 t) (zq_T2 t) (zq_T3 B) (zq_T4 B) (zq_T5 B) a6 a7 a8 a9 a10 a11 a12 a13 a14 a15 a16 a17) (fun _ _ => True) 5 0 () (by omega) trivial ?_ ?_
  · intro n _ _
    exact pk_le 5 5 (fun _ => H) (fun z => absurd z (by omega))
  · intro n b _ hb _ hw
    refine pk_le 5 b (fun z => absurd z (by omega)) (fun _ => pk_eq b a (fun z => nm_r (nI_1 b) (hw () trivial)) (fun z => pk_eq b c (fun z => nm_r (nI_1 b) (hw () trivial)) (fun z => ?_)))
    have f := zq_FT hm ha hb hc
    rw [zq_55 a c, zq_55 c b, nI_clamp (show 5 * a + c < 2 ^ 31 by omega), nI_clamp (show 5 * c + b < 2 ^ 31 by omega), h8 (5 * a + c) (by omega), h8 (5 * c + b) (by omega)]
    refine ⟨vp_in_nI (by omega) (by decide), vp_in_nI (by omega) (by decide), br_c (fun y => ⟨vp_in_nI (by omega) (by decide), zq_66 ha hb ?_ (hw () trivial)⟩) (fun y => ⟨vp_in_nI (by omega) (by decide), zq_66 ha hb ?_ (hw () trivial)⟩)⟩
    · rw [h8 (5 * a + b) (by omega)]
      rw [if_pos y] at f
      exact f
    · rw [h8 (5 * a + b) (by omega)]
      rw [if_neg y] at f
      exact f
theorem zq_strengths {post : St2 → Prop} {cc : Int32} {a6 a7 a8 a9 a10 a11 a12 a13 a14 a15 a16 a17 : Nat → Int32} {t B : Nat} (hm : (t, B) ∈ zq_TL) (H : ∀ s, (∀ j, j < 25 → s j = zq_T8 B j) → post (nI (zq_cn t), 1, cc, (zq_T1 t), (zq_T2 t), (zq_T3 B), (zq_T4 B), (zq_T5 B), a6, a7, s, a9, a10, a11, a12, a13, a14, a15, a16, a17)) : wpX_findStrengths post (nI (zq_cn t), 1, cc, (zq_T1 t), (zq_T2 t), (zq_T3 B), (zq_T4 B), (zq_T5 B), a6, a7, a8, a9, a10, a11, a12, a13, a14, a15, a16, a17) := by
  refine pk_loop (fun n i s => wX_findStrengths_2 post (nI (zq_cn t)) 1 cc n (nI i) (zq_T1 t) (zq_T2 t) (zq_T3 B) (zq_T4 B) (zq_T5 B) a6 a7 s a9 a10 a11 a12 a13 a14 a15 a16 a17) (fun i s => ∀ j, j < i → s j = zq_T8 B j) 25 0 a8 (by omega) (fun j hj => absurd hj (by omega)) ?_ ?_
  · intro n s h
    refine pk_le 25 25 (fun _ => ?_) (fun z => absurd z (by omega))
    refine pk_loop (σ := Unit) (fun n i _ => wX_findStrengths_41 post n (nI i) (nI (zq_cn t)) 1 cc (zq_T1 t) (zq_T2 t) (zq_T3 B) (zq_T4 B) (zq_T5 B) a6 a7 s a9 a10 a11 a12 a13 a14 a15 a16 a17) (fun _ _ => True) 5 0 () (by omega) trivial ?_ ?_
    · intro n _ _
      exact pk_le 5 5 (fun _ => H s h) (fun z => absurd z (by omega))
    · intro n c _ hc _ hw
      refine pk_le 5 c (fun z => absurd z (by omega)) (fun _ => ?_)
      refine pk_loop (σ := Unit) (fun m i _ => wX_findStrengths_48 post (wX_findStrengths_41 post n) (nI c) m (nI i) (nI (zq_cn t)) 1 cc (zq_T1 t) (zq_T2 t) (zq_T3 B) (zq_T4 B) (zq_T5 B) a6 a7 s a9 a10 a11 a12 a13 a14 a15 a16 a17) (fun _ _ => True) 5 0 () (by omega) trivial ?_ ?_
      · intro n _ _
        exact pk_le 5 5 (fun _ => nm_r (nI_1 c) (hw () trivial)) (fun z => absurd z (by omega))
      · intro n a _ ha _ hw'
        exact pk_le 5 a (fun z => absurd z (by omega)) (fun _ => pk_eq a c (fun z => nm_r (nI_1 a) (hw' () trivial)) (fun z => zq_pass hm ha hc h (nm_r (nI_1 a) (hw' () trivial))))
  · intro n i s hi h hw
    refine pk_le 25 i (fun z => absurd z (by omega)) (fun _ => ?_)
    rw [nI_clamp (show i < 2 ^ 31 by omega), zq_T4n hi]
    refine ⟨vp_in_nI hi (by decide), br_c (fun z => ⟨vp_in_nI hi (by decide), nm_e (nm_r (nI_1 i) (hw _ (zq_fill rfl h ?_)))⟩) (fun z => ⟨vp_in_nI hi (by decide), vp_in_nI hi (by decide), nm_e (nm_r (nI_1 i) (hw _ (zq_fill rfl h ?_)))⟩)⟩
    · exact (if_pos z).symm
    · exact (if_neg z).symm
theorem zq_F9 {t B : Nat} (hm : (t, B) ∈ zq_TL) : zm_byStrength_8 (fun y => y == nI (zq_win t 9)) (zq_T8 B) 40 0 0 = true := by
  have f : zq_all (fun t B => zm_byStrength_8 (fun y => y == nI (zq_win t 9)) (zq_T8 B) 40 0 0) = true := by decide +kernel
  exact zq_allI f hm
theorem zq_r9 {post : Int32 → St2 → Prop} {cc : Int32} {a6 a7 a8 a9 a10 a11 a12 a13 a14 a15 a16 a17 : Nat → Int32} {t B : Nat} (hm : (t, B) ∈ zq_TL) (H : ∀ (cc : Int32) (a6 a7 a8 a9 a10 a11 a12 a13 a14 a15 a16 a17 : Nat → Int32), post (nI (zq_win t 9)) (nI (zq_cn t), 1, cc, (zq_T1 t), (zq_T2 t), (zq_T3 B), (zq_T4 B), (zq_T5 B), a6, a7, a8, a9, a10, a11, a12, a13, a14, a15, a16, a17)) : wpX_byStrength post (nI (zq_cn t), 1, cc, (zq_T1 t), (zq_T2 t), (zq_T3 B), (zq_T4 B), (zq_T5 B), a6, a7, a8, a9, a10, a11, a12, a13, a14, a15, a16, a17) :=
  zq_strengths hm (fun s hs => ⟨40, zq_s_byStrength_8 (zq_F9 hm) (zq_eqk2 (H _ _ _ _ _ _ _ _ _ _ _ _ _)) hs⟩)
theorem zq_r11 {post : Int32 → Prop} {cc : Int32} {a6 a7 a8 a9 a10 a11 a12 a13 a14 a15 a16 a17 : Nat → Int32} {t B : Nat} (hm : (t, B) ∈ zq_TL) (H : post (nI (zq_win t 11))) : wpX_smallestSet post (nI (zq_cn t), 1, cc, (zq_T1 t), (zq_T2 t), (zq_T3 B), (zq_T4 B), (zq_T5 B), a6, a7, a8, a9, a10, a11, a12, a13, a14, a15, a16, a17) := by
  have f : zq_all (fun t B => zm_smallestSet (fun y => y == nI (zq_win t 11)) (zq_T5 B)) = true := by decide +kernel
  exact zq_s_smallestSet (zq_allI f hm) (zq_eqk H)
theorem zq_r13 {post : Int32 → Prop} {cc : Int32} {a6 a7 a8 a9 a10 a11 a12 a13 a14 a15 a16 a17 : Nat → Int32} {t B : Nat} (hm : (t, B) ∈ zq_TL) (H : post (nI (zq_win t 13))) : wpX_uncovered post (nI (zq_cn t), 1, cc, (zq_T1 t), (zq_T2 t), (zq_T3 B), (zq_T4 B), (zq_T5 B), a6, a7, a8, a9, a10, a11, a12, a13, a14, a15, a16, a17) := by
  have f : zq_all (fun t B => zm_uncovered (fun y => y == nI (zq_win t 13)) (zq_T5 B)) = true := by decide +kernel
  exact zq_s_uncovered (zq_allI f hm) (zq_eqk H)
theorem zq_r14 {post : Int32 → Prop} {cc : Int32} {a6 a7 a8 a9 a10 a11 a12 a13 a14 a15 a16 a17 : Nat → Int32} {t B : Nat} (hm : (t, B) ∈ zq_TL) (H : post (nI (zq_win t 14))) : wpX_chainFronts post (nI (zq_cn t), 1, cc, (zq_T1 t), (zq_T2 t), (zq_T3 B), (zq_T4 B), (zq_T5 B), a6, a7, a8, a9, a10, a11, a12, a13, a14, a15, a16, a17) := by
  have f : zq_all (fun t B => zm_chainFronts (fun y => y == nI (zq_win t 14)) (zq_T5 B)) = true := by decide +kernel
  exact zq_s_chainFronts (zq_allI f hm) (zq_eqk H)
end
section
-- part 08: closeReaches, unreturned
def zq_9 (B : Nat) (lo : Nat → Nat) (s : Nat → Int32) : Prop := ∀ a, a < 5 → ∃ m, s a = nI m ∧ lo a ||| m = m ∧ m ||| zq_row B a = zq_row B a
theorem zq_rlt (B a : Nat) : zq_row B a < 32 := Nat.mod_lt _ (by decide)
theorem zq_orle {m w : Nat} (h : m ||| w = w) : m ≤ w := by
  rw [← h]
  exact Nat.left_le_or
theorem zq_FR {t B : Nat} (hm : (t, B) ∈ zq_TL) {a c : Nat} (ha : a < 5) (hc : c < 5) (h : (zq_row B a).testBit c = true) : zq_row B c ||| zq_row B a = zq_row B a := by
  have f : zq_all (fun _ B => zq_rg 5 (fun a => zq_rg 5 (fun c => !((zq_row B a).testBit c) || (zq_row B c ||| zq_row B a == zq_row B a)))) = true := by decide +kernel
  have g := zq_rgI (zq_rgI (zq_allI f hm) ha) hc
  rw [h] at g
  exact eq_of_beq g
theorem zq_subb {m w c : Nat} (h : m ||| w = w) (hb : m.testBit c = true) : w.testBit c = true := by
  rw [← h, Nat.testBit_or, hb]
  rfl
theorem zq_9u {t B : Nat} (hm : (t, B) ∈ zq_TL) {lo : Nat → Nat} {s : Nat → Int32} (h : zq_9 B lo s) {a c ma mc : Nat} (ha : a < 5) (hc : c < 5) (ea : lo a ||| ma = ma ∧ ma ||| zq_row B a = zq_row B a) (ec : mc ||| zq_row B c = zq_row B c) (hb : ma.testBit c = true) : zq_9 B lo (upd s a ((nI ma ||| nI mc).toInt8.toInt32)) := by
  intro j hj
  by_cases e : j = a
  · subst e
    have r1 := zq_FR hm ha hc (zq_subb ea.2 hb)
    have r2 : (ma ||| mc) ||| zq_row B j = zq_row B j := by
      rw [← r1, Nat.or_assoc, ← Nat.or_assoc mc, ec, r1, ea.2]
    refine ⟨ma ||| mc, ?_, ?_, r2⟩
    · rw [pk_us, zq_nor, zq_i8 (Nat.lt_of_le_of_lt (zq_orle r2) (Nat.lt_trans (zq_rlt B j) (by decide)))]
    · rw [← Nat.or_assoc, ea.1]
  · rw [pk_un e]
    exact h j hj
theorem zq_close {post : St2 → Prop} {cc : Int32} {a6 a7 a8 a9 a10 a11 a12 a13 a14 a15 a16 a17 : Nat → Int32} {t B : Nat} (hm : (t, B) ∈ zq_TL) {lo : Nat → Nat} (h9 : zq_9 B lo a9) (H : ∀ s, zq_9 B lo s → post (nI (zq_cn t), 1, cc, (zq_T1 t), (zq_T2 t), (zq_T3 B), (zq_T4 B), (zq_T5 B), a6, a7, a8, s, a10, a11, a12, a13, a14, a15, a16, a17)) : wpX_closeReaches post (nI (zq_cn t), 1, cc, (zq_T1 t), (zq_T2 t), (zq_T3 B), (zq_T4 B), (zq_T5 B), a6, a7, a8, a9, a10, a11, a12, a13, a14, a15, a16, a17) := by
  refine pk_loop (fun n i s => wX_closeReaches_2 post (nI (zq_cn t)) 1 cc n (nI i) (zq_T1 t) (zq_T2 t) (zq_T3 B) (zq_T4 B) (zq_T5 B) a6 a7 a8 s a10 a11 a12 a13 a14 a15 a16 a17) (fun _ s => zq_9 B lo s) 5 0 a9 (by omega) h9 ?_ ?_
  · intro n s h
    exact pk_le 5 5 (fun _ => H s h) (fun z => absurd z (by omega))
  · intro n c s hc h hw
    refine pk_le 5 c (fun z => absurd z (by omega)) (fun _ => ?_)
    refine pk_loop (fun m i s => wX_closeReaches_9 post (wX_closeReaches_2 post (nI (zq_cn t)) 1 cc n) (nI c) (nI (zq_cn t)) 1 cc m (nI i) (zq_T1 t) (zq_T2 t) (zq_T3 B) (zq_T4 B) (zq_T5 B) a6 a7 a8 s a10 a11 a12 a13 a14 a15 a16 a17) (fun _ s => zq_9 B lo s) 5 0 s (by omega) h ?_ ?_
    · intro n s h
      exact pk_le 5 5 (fun _ => nm_r (nI_1 c) (hw s h)) (fun z => absurd z (by omega))
    · intro n a s ha h hw
      obtain ⟨ma, e1, e2, e3⟩ := h a ha
      obtain ⟨mc, c1, c2, c3⟩ := h c hc
      refine pk_le 5 a (fun z => absurd z (by omega)) (fun _ => ?_)
      rw [nI_clamp (show a < 2 ^ 31 by omega), nI_clamp (show c < 2 ^ 31 by omega), e1, c1]
      have hma : ma < 2 ^ 31 := Nat.lt_of_le_of_lt (zq_orle e3) (Nat.lt_trans (zq_rlt B a) (by decide))
      exact ⟨vp_in_nI ha (by decide), zq_isIn hma (by omega) (fun hb => br_t rfl (nm_r (nI_1 a) (hw s h))) (fun hb => br_f (by decide) ⟨vp_in_nI ha (by decide), vp_in_nI hc (by decide), vp_in_nI ha (by decide), nm_e (nm_r (nI_1 a) (hw _ (zq_9u hm h ha hc ⟨e2, e3⟩ c3 hb)))⟩)⟩
theorem zq_T5e {B j : Nat} (h : j < 5) : zq_T5 B j = nI (zq_row B j) := if_pos h
theorem zq_r12 {post : Int32 → St2 → Prop} {cc : Int32} {a6 a7 a8 a9 a10 a11 a12 a13 a14 a15 a16 a17 : Nat → Int32} {t B : Nat} (hm : (t, B) ∈ zq_TL) (H : ∀ (cc : Int32) (a6 a7 a8 a9 a10 a11 a12 a13 a14 a15 a16 a17 : Nat → Int32), post (nI (zq_win t 12)) (nI (zq_cn t), 1, cc, (zq_T1 t), (zq_T2 t), (zq_T3 B), (zq_T4 B), (zq_T5 B), a6, a7, a8, a9, a10, a11, a12, a13, a14, a15, a16, a17)) : wpX_unreturned post (nI (zq_cn t), 1, cc, (zq_T1 t), (zq_T2 t), (zq_T3 B), (zq_T4 B), (zq_T5 B), a6, a7, a8, a9, a10, a11, a12, a13, a14, a15, a16, a17) := by
  have f : zq_all (fun t B => zm_unreturned_33 (fun y => y == nI (zq_win t 12)) (zq_T5 B) 40 0 0) = true := by decide +kernel
  refine pk_loop (fun n i s => wX_unreturned_2 post (nI (zq_cn t)) 1 cc n (nI i) (zq_T1 t) (zq_T2 t) (zq_T3 B) (zq_T4 B) (zq_T5 B) a6 a7 a8 s a10 a11 a12 a13 a14 a15 a16 a17) (fun i s => ∀ j, j < i → s j = zq_T5 B j) 5 0 a9 (by omega) (fun j hj => absurd hj (by omega)) ?_ ?_
  · intro n s h
    refine pk_le 5 5 (fun _ => zq_close hm (lo := zq_row B) ?_ (fun s' h' => ⟨40, zq_s_unreturned_33 (zq_allI f hm) (zq_eqk2 (H _ _ _ _ _ _ _ _ _ _ _ _ _)) ?_⟩)) (fun z => absurd z (by omega))
    · intro a ha
      exact ⟨zq_row B a, by rw [h a ha, zq_T5e ha], Nat.or_self _, Nat.or_self _⟩
    · intro k hk
      obtain ⟨m, e1, e2, e3⟩ := h' k hk
      rw [e1, zq_T5e hk, ← e2, Nat.or_comm, e3]
  · intro n i s hi h hw
    refine pk_le 5 i (fun z => absurd z (by omega)) (fun _ => ?_)
    rw [nI_clamp (show i < 2 ^ 31 by omega)]
    refine ⟨vp_in_nI hi (by decide), vp_in_nI hi (by decide), nm_e (nm_r (nI_1 i) (hw _ (zq_fill rfl h ?_)))⟩
    rw [vp_nar_byte, zq_T5e hi, zq_i8 (Nat.lt_trans (zq_rlt B i) (by decide))]
end
section
-- part 09: listCouples, findReaches, isComplete
def zq_pcN (B : Nat) : Nat → Nat
  | 0 => 0
  | j + 1 => zq_pcN B j + zq_b B j
def zq_ixG (B : Nat) : Nat → Nat → Nat → Nat
  | 0, j, _ => j
  | f + 1, j, k => if zq_b B j = 0 then zq_ixG B f (j + 1) k else if k = 0 then j else zq_ixG B f (j + 1) (k - 1)
def zq_ix (B k : Nat) : Nat := zq_ixG B 25 0 k
def zq_lc (B m j : Nat) : Nat := if m = 1 then zq_pcN B j else 0
def zq_LC (B m j : Nat) (s : Int32 × (Nat → Int32) × (Nat → Int32)) : Prop := s.1 = nI (zq_lc B m j) ∧ ∀ k, k < zq_lc B m j → s.2.1 k = nI (zq_ix B k / 5) ∧ s.2.2 k = nI (zq_ix B k % 5)
def zq_p1Q (B j : Nat) : Bool := (decide (zq_T4 B j = nI 1) == decide (zq_b B j = 1)) && zq_rg 10 (fun m => decide (m < 2) || !(zq_T4 B j == nI m)) && (decide (zq_b B j = 0) || (zq_ix B (zq_pcN B j) == j && decide (zq_pcN B j < 10)))
theorem zq_p1 {t B : Nat} (hm : (t, B) ∈ zq_TL) {j : Nat} (hj : j < 25) : (zq_T4 B j = nI 1 ↔ zq_b B j = 1) ∧ (∀ m, 2 ≤ m → m < 10 → ¬ zq_T4 B j = nI m) ∧ (zq_b B j = 1 → zq_ix B (zq_pcN B j) = j ∧ zq_pcN B j < 10) := by
  have f : zq_all (fun _ B => zq_rg 25 (fun j => zq_p1Q B j)) = true := by decide +kernel
  have h : zq_p1Q B j = true := zq_rgI (zq_allI f hm) hj
  unfold zq_p1Q at h
  rw [Bool.and_eq_true, Bool.and_eq_true] at h
  obtain ⟨⟨h1, h2⟩, h3⟩ := h
  have h1' := eq_of_beq h1
  refine ⟨decide_eq_decide.mp h1', ?_, ?_⟩
  · intro m m2 m10 e
    have g := zq_rgI h2 m10
    rw [e, Bool.or_eq_true, decide_eq_true_iff] at g
    rcases g with g | g
    · omega
    · rw [beq_self_eq_true] at g
      exact absurd g (by decide)
  · intro e
    rw [e, Bool.or_eq_true, Bool.and_eq_true, decide_eq_true_iff, decide_eq_true_iff] at h3
    rcases h3 with g | g
    · exact absurd g (by decide)
    · exact ⟨eq_of_beq g.1, g.2⟩
theorem zq_lcS {t B : Nat} (hm : (t, B) ∈ zq_TL) {m j : Nat} (hj : j < 25) (h : ¬ zq_T4 B j = nI m) : zq_lc B m (j + 1) = zq_lc B m j := by
  unfold zq_lc
  by_cases e : m = 1
  · subst e
    rw [if_pos rfl, if_pos rfl]
    have := zq_blt B j
    have g : ¬ zq_b B j = 1 := fun z => h ((zq_p1 hm hj).1.mpr z)
    show zq_pcN B j + zq_b B j = _
    omega
  · rw [if_neg e, if_neg e]
theorem zq_21 {post : St2 → Prop} {J8 J14 : Int32 → Int32 → Int32 → Int32 → (Nat → Int32) → (Nat → Int32) → (Nat → Int32) → (Nat → Int32) → (Nat → Int32) → (Nat → Int32) → (Nat → Int32) → (Nat → Int32) → (Nat → Int32) → (Nat → Int32) → (Nat → Int32) → (Nat → Int32) → (Nat → Int32) → (Nat → Int32) → (Nat → Int32) → (Nat → Int32) → (Nat → Int32) → Prop} {a6 a7 a8 a9 a12 a13 a14 a15 a16 a17 : Nat → Int32} {t B m a : Nat} (hm : (t, B) ∈ zq_TL) (m1 : 1 ≤ m) (m9 : m < 10) (ha : a < 5) (s : Int32 × (Nat → Int32) × (Nat → Int32)) (hs : zq_LC B m (5 * a) s) (H : ∀ s, zq_LC B m (5 * a + 5) s → J14 (nI (a + 1)) (nI (zq_cn t)) 1 s.1 (zq_T1 t) (zq_T2 t) (zq_T3 B) (zq_T4 B) (zq_T5 B) a6 a7 a8 a9 s.2.1 s.2.2 a12 a13 a14 a15 a16 a17) : ∃ n, wX_listCouples_21 post J8 J14 (nI m) (nI a) n 0 (nI (zq_cn t)) 1 s.1 (zq_T1 t) (zq_T2 t) (zq_T3 B) (zq_T4 B) (zq_T5 B) a6 a7 a8 a9 s.2.1 s.2.2 a12 a13 a14 a15 a16 a17 := by
  refine pk_loop (σ := Int32 × (Nat → Int32) × (Nat → Int32)) (fun n i s => wX_listCouples_21 post J8 J14 (nI m) (nI a) n (nI i) (nI (zq_cn t)) 1 s.1 (zq_T1 t) (zq_T2 t) (zq_T3 B) (zq_T4 B) (zq_T5 B) a6 a7 a8 a9 s.2.1 s.2.2 a12 a13 a14 a15 a16 a17) (fun i s => zq_LC B m (5 * a + i) s) 5 0 s (by omega) hs ?_ ?_
  · intro n s h
    exact pk_le 5 5 (fun _ => nm_r (nI_1 a) (H s h)) (fun z => absurd z (by omega))
  · intro n b s hb h hw
    obtain ⟨s1, s2, s3⟩ := s
    obtain ⟨h1, h2⟩ := h
    dsimp only at h1 h2
    subst h1
    refine pk_le 5 b (fun z => absurd z (by omega)) (fun _ => ?_)
    rw [zq_55, nI_clamp (show 5 * a + b < 2 ^ 31 by omega)]
    refine ⟨vp_in_nI (by omega) (by decide), br_c (fun z => ?_) (fun z => nm_r (nI_1 b) (hw (_, s2, s3) ?_))⟩
    · have q := zq_p1 hm (show 5 * a + b < 25 by omega)
      have em : m = 1 := by
        rcases Nat.lt_or_ge m 2 with g | g
        · omega
        · exact absurd z (q.2.1 m g m9)
      subst em
      have eb := q.1.mp z
      obtain ⟨e1, e2⟩ := q.2.2 eb
      have el : zq_lc B 1 (5 * a + b) = zq_pcN B (5 * a + b) := if_pos rfl
      have el' : zq_lc B 1 (5 * a + (b + 1)) = zq_pcN B (5 * a + b) + 1 := by
        show zq_pcN B (5 * a + b) + zq_b B (5 * a + b) = _
        rw [eb]
      rw [el] at h2 ⊢
      have ed : (5 * a + b) / 5 = a := by omega
      have er : (5 * a + b) % 5 = b := by omega
      unfold wpX_addCouple
      dsimp only
      rw [nI_clamp (show zq_pcN B (5 * a + b) < 2 ^ 31 by omega), zq_i8 (show a < 128 by omega), zq_i8 (show b < 128 by omega)]
      refine ⟨vp_in_nI e2 (by decide), nm_e ⟨vp_in_nI e2 (by decide), nm_e (nm_r (nI_1 _) (nm_r (nI_1 b) (hw (_, _, _) ⟨?_, ?_⟩)))⟩⟩
      · show nI (zq_pcN B (5 * a + b) + 1) = nI (zq_lc B 1 (5 * a + (b + 1)))
        rw [el']
      · intro k hk
        rw [el'] at hk
        show upd s2 _ _ k = _ ∧ upd s3 _ _ k = _
        by_cases e : k = zq_pcN B (5 * a + b)
        · rw [e, pk_us, pk_us, e1, ed, er]
          exact ⟨rfl, rfl⟩
        · rw [pk_un e, pk_un e]
          exact h2 k (by omega)
    · have e := zq_lcS hm (show 5 * a + b < 25 by omega) z
      refine ⟨?_, ?_⟩
      · show nI (zq_lc B m (5 * a + b)) = nI (zq_lc B m (5 * a + b + 1))
        rw [e]
      · intro k hk
        have hk' : k < zq_lc B m (5 * a + b + 1) := hk
        rw [e] at hk'
        exact h2 k hk'
theorem zq_lc0 (B m : Nat) : zq_lc B m 0 = 0 := by
  unfold zq_lc
  by_cases e : m = 1
  · rw [if_pos e]
    rfl
  · rw [if_neg e]
theorem zq_list {post : St2 → Prop} {cc : Int32} {a6 a7 a8 a9 a12 a13 a14 a15 a16 a17 : Nat → Int32} {a10 a11 : Nat → Int32} {t B : Nat} (hm : (t, B) ∈ zq_TL) (H : ∀ s, zq_LC B 1 25 s → post (nI (zq_cn t), 1, s.1, (zq_T1 t), (zq_T2 t), (zq_T3 B), (zq_T4 B), (zq_T5 B), a6, a7, a8, a9, s.2.1, s.2.2, a12, a13, a14, a15, a16, a17)) : wpX_listCouples post (nI (zq_cn t), 1, cc, (zq_T1 t), (zq_T2 t), (zq_T3 B), (zq_T4 B), (zq_T5 B), a6, a7, a8, a9, a10, a11, a12, a13, a14, a15, a16, a17) := by
  refine ⟨10, ?_⟩
  refine pk_loopD (σ := Int32 × (Nat → Int32) × (Nat → Int32)) (fun n i s => wX_listCouples_8 post n (nI i) (nI (zq_cn t)) 1 s.1 (zq_T1 t) (zq_T2 t) (zq_T3 B) (zq_T4 B) (zq_T5 B) a6 a7 a8 a9 s.2.1 s.2.2 a12 a13 a14 a15 a16 a17) (fun i s => i < 10 ∧ if i = 0 then zq_LC B 1 25 s else s.1 = 0) ?_ ?_ 9 (0, a10, a11) ⟨by omega, rfl⟩
  · intro n s h
    have h' : zq_LC B 1 25 s := h.2
    exact br_t (by decide) (H s h')
  · intro n m s h hw
    obtain ⟨h1, h2⟩ := h
    have h2' : s.1 = 0 := h2
    refine br_f (nI_nle (by omega) (by omega)) ?_
    refine pk_loop (σ := Int32 × (Nat → Int32) × (Nat → Int32)) (fun k i s => wX_listCouples_14 post (wX_listCouples_8 post n) (nI (m + 1)) k (nI i) (nI (zq_cn t)) 1 s.1 (zq_T1 t) (zq_T2 t) (zq_T3 B) (zq_T4 B) (zq_T5 B) a6 a7 a8 a9 s.2.1 s.2.2 a12 a13 a14 a15 a16 a17) (fun i s => zq_LC B (m + 1) (5 * i) s) 5 0 s (by omega) ⟨by rw [h2', zq_lc0]; rfl, fun k hk => by rw [zq_lc0] at hk; exact absurd hk (by omega)⟩ ?_ ?_
    · intro k s h
      refine pk_le 5 5 (fun _ => nm_r (pk_m1 m) (hw s ⟨by omega, ?_⟩)) (fun z => absurd z (by omega))
      by_cases e : m = 0
      · subst e
        exact h
      · rw [if_neg e]
        have q := h.1
        unfold zq_lc at q
        rw [if_neg (by omega)] at q
        exact q
    · intro k a s ha h hw'
      exact pk_le 5 a (fun z => absurd z (by omega)) (fun _ => zq_21 hm (by omega) h1 ha s h (fun s' h' => hw' s' h'))
/-! the couples, once listed -/
def zq_cQ (t B : Nat) : Bool := decide (3125 ≤ t) || zq_rg 10 (fun k => decide (zq_ix B k < 25) && (zq_T4 B (zq_ix B k) == 1) && ((2 ^ (zq_ix B k % 5) ||| zq_row B (zq_ix B k / 5)) == zq_row B (zq_ix B k / 5)) && !((zq_row B (zq_ix B k % 5)).testBit (zq_ix B k / 5)))
theorem zq_c {t B : Nat} (hm : (t, B) ∈ zq_TL) (ht : t < 3125) {k : Nat} (hk : k < 10) : zq_ix B k < 25 ∧ zq_T4 B (zq_ix B k) = 1 ∧ 2 ^ (zq_ix B k % 5) ||| zq_row B (zq_ix B k / 5) = zq_row B (zq_ix B k / 5) ∧ (zq_row B (zq_ix B k % 5)).testBit (zq_ix B k / 5) = false := by
  have f : zq_all (fun t B => zq_cQ t B) = true := by decide +kernel
  have h : zq_cQ t B = true := zq_allI f hm
  unfold zq_cQ at h
  rw [Bool.or_eq_true, decide_eq_true_iff] at h
  rcases h with h | h
  · omega
  · have g := zq_rgI h hk
    rw [Bool.and_eq_true, Bool.and_eq_true, Bool.and_eq_true, decide_eq_true_iff, Bool.not_eq_true'] at g
    exact ⟨g.1.1.1, eq_of_beq g.1.1.2, eq_of_beq g.1.2, g.2⟩
theorem zq_pc25 {t B : Nat} (hm : (t, B) ∈ zq_TL) : zq_pcN B 25 = if t < 3125 then 10 else 0 := by
  have f : zq_all (fun t B => zq_pcN B 25 == if t < 3125 then 10 else 0) = true := by decide +kernel
  exact eq_of_beq (zq_allI f hm)
def zq_Cp (B : Nat) (a10 a11 : Nat → Int32) : Prop := ∀ k, k < 10 → a10 k = nI (zq_ix B k / 5) ∧ a11 k = nI (zq_ix B k % 5)
theorem zq_one : ∀ b, b < 31 → (1 : Int32) <<< (nI b &&& 31) = nI (2 ^ b) := by decide +kernel
theorem zq_9v {B : Nat} {lo : Nat → Nat} {s : Nat → Int32} (h : zq_9 B lo s) {a w : Nat} (ha : a < 5) (hw : w ||| zq_row B a = zq_row B a) : zq_9 B lo (upd s a ((s a ||| nI w).toInt8.toInt32)) := by
  intro j hj
  by_cases e : j = a
  · subst e
    obtain ⟨m, e1, e2, e3⟩ := h j ha
    have r2 : (m ||| w) ||| zq_row B j = zq_row B j := by rw [Nat.or_assoc, hw, e3]
    refine ⟨m ||| w, ?_, ?_, r2⟩
    · rw [pk_us, e1, zq_nor, zq_i8 (Nat.lt_of_le_of_lt (zq_orle r2) (Nat.lt_trans (zq_rlt B j) (by decide)))]
    · rw [← Nat.or_assoc, e2]
  · rw [pk_un e]
    exact h j hj
theorem zq_reach {post : St2 → Prop} {a6 a7 a8 a9 a10 a11 a12 a13 a14 a15 a16 a17 : Nat → Int32} {t B p : Nat} (hm : (t, B) ∈ zq_TL) (ht : t < 3125) (hp : p < 1024) (hC : zq_Cp B a10 a11) (H : ∀ s, zq_9 B (fun _ => 0) s → post (nI (zq_cn t), 1, nI 10, (zq_T1 t), (zq_T2 t), (zq_T3 B), (zq_T4 B), (zq_T5 B), a6, a7, a8, s, a10, a11, a12, a13, a14, a15, a16, a17)) : wpX_findReaches post (nI (zq_cn t), 1, nI 10, (zq_T1 t), (zq_T2 t), (zq_T3 B), (zq_T4 B), (zq_T5 B), a6, a7, a8, a9, a10, a11, a12, a13, a14, a15, a16, a17) (nI p) := by
  refine pk_loop (fun n i s => wX_findReaches_2 post (nI p) (nI (zq_cn t)) 1 (nI 10) n (nI i) (zq_T1 t) (zq_T2 t) (zq_T3 B) (zq_T4 B) (zq_T5 B) a6 a7 a8 s a10 a11 a12 a13 a14 a15 a16 a17) (fun i s => ∀ j, j < i → s j = (fun _ => (0 : Int32)) j) 5 0 a9 (by omega) (fun j hj => absurd hj (by omega)) ?_ ?_
  · intro n s h
    refine pk_le 5 5 (fun _ => ?_) (fun z => absurd z (by omega))
    refine pk_loop (fun n i s => wX_findReaches_22 post (nI p) (nI (zq_cn t)) 1 (nI 10) n (nI i) (zq_T1 t) (zq_T2 t) (zq_T3 B) (zq_T4 B) (zq_T5 B) a6 a7 a8 s a10 a11 a12 a13 a14 a15 a16 a17) (fun _ s => zq_9 B (fun _ => 0) s) 10 0 s (by omega) (fun a ha => ⟨0, h a ha, Nat.or_self 0, Nat.zero_or _⟩) ?_ ?_
    · intro n s h
      exact pk_le 10 10 (fun _ => zq_close hm h (fun s' h' => H s' h')) (fun z => absurd z (by omega))
    · intro n k s hk h hw
      obtain ⟨c1, c2, c3, c4⟩ := zq_c hm ht hk
      obtain ⟨q1, q2⟩ := hC k hk
      refine pk_le 10 k (fun z => absurd z (by omega)) (fun _ => ?_)
      cases hb : p.testBit k with
      | false => exact br_t (zq_bit0 (by omega) (by omega) hb) (nm_r (nI_1 k) (hw s h))
      | true =>
        refine br_f (zq_bit1 (by omega) (by omega) hb) ?_
        rw [nI_clamp (show k < 2 ^ 31 by omega), q1, q2, nI_clamp (show zq_ix B k / 5 < 2 ^ 31 by omega), zq_one _ (show zq_ix B k % 5 < 31 by omega)]
        exact ⟨vp_in_nI hk (by decide), vp_in_nI (by omega) (by decide), vp_in_nI hk (by decide), vp_in_nI (by omega) (by decide), nm_e (nm_r (nI_1 k) (hw _ (zq_9v h (by omega) c3)))⟩
  · intro n i s hi h hw
    exact pk_le 5 i (fun z => absurd z (by omega)) (fun _ => ⟨pk_in i 5 hi, nm_e (nm_r (nI_1 i) (hw _ (zq_fill (nI_clamp (by omega)) h rfl)))⟩)
theorem zq_1023 {p : Nat} (hp : p < 1024) (h : ∀ k, k < 10 → p.testBit k = true) : p = 1023 := by
  have f : zq_rg 1024 (fun p => p == 1023 || !(zq_rg 10 (fun k => p.testBit k))) = true := by decide +kernel
  have g := zq_rgI f hp
  rw [Bool.or_eq_true, Bool.not_eq_true'] at g
  rcases g with g | g
  · exact eq_of_beq g
  · have : zq_rg 10 (fun k => p.testBit k) = true := List.all_eq_true.mpr (fun k hk => h k (List.mem_range.mp hk))
    rw [this] at g
    exact absurd g (by decide)
theorem zq_irr {t B : Nat} (hm : (t, B) ∈ zq_TL) {a : Nat} (ha : a < 5) : (zq_row B a).testBit a = false := by
  have f : zq_all (fun _ B => zq_rg 5 (fun a => !((zq_row B a).testBit a))) = true := by decide +kernel
  have g := zq_rgI (zq_allI f hm) ha
  rw [Bool.not_eq_true'] at g
  exact g
theorem zq_nsub {m w c : Nat} (h : m ||| w = w) (hb : w.testBit c = false) : m.testBit c = false := by
  cases e : m.testBit c with
  | false => rfl
  | true => rw [zq_subb h e] at hb; exact absurd hb (by decide)
theorem zq_isComp {post : Int32 → St2 → Prop} {a6 a7 a8 a9 a10 a11 a12 a13 a14 a15 a16 a17 : Nat → Int32} {t B p : Nat} (hm : (t, B) ∈ zq_TL) (ht : t < 3125) (hp : p < 1024) (hC : zq_Cp B a10 a11) (H : ∀ s, post (if p = 1023 then 1 else 0) (nI (zq_cn t), 1, nI 10, (zq_T1 t), (zq_T2 t), (zq_T3 B), (zq_T4 B), (zq_T5 B), a6, a7, a8, s, a10, a11, a12, a13, a14, a15, a16, a17)) : wpX_isComplete post (nI (zq_cn t), 1, nI 10, (zq_T1 t), (zq_T2 t), (zq_T3 B), (zq_T4 B), (zq_T5 B), a6, a7, a8, a9, a10, a11, a12, a13, a14, a15, a16, a17) (nI p) (nI 1023) := by
  refine zq_reach hm ht hp hC (fun s h9 => ?_)
  refine pk_loop (σ := Unit) (fun n i _ => wX_isComplete_7 post (nI p) (nI 1023) (nI (zq_cn t)) 1 (nI 10) (zq_T1 t) (zq_T2 t) (zq_T3 B) (zq_T4 B) (zq_T5 B) a6 a7 a8 s a10 a11 a12 a13 a14 a15 a16 a17 n (nI i)) (fun _ _ => True) 5 0 () (by omega) trivial ?_ ?_
  · intro n _ _
    refine pk_le 5 5 (fun _ => ?_) (fun z => absurd z (by omega))
    refine pk_loop (σ := Unit) (fun n i _ => wX_isComplete_36 post (nI p) (nI 1023) (nI (zq_cn t)) 1 (nI 10) (zq_T1 t) (zq_T2 t) (zq_T3 B) (zq_T4 B) (zq_T5 B) a6 a7 a8 s a10 a11 a12 a13 a14 a15 a16 a17 n (nI i)) (fun i _ => ∀ k, k < i → p.testBit k = true) 10 0 () (by omega) (fun k hk => absurd hk (by omega)) ?_ ?_
    · intro n _ h
      have e := zq_1023 hp h
      have H' := H s
      rw [if_pos e] at H'
      exact pk_le 10 10 (fun _ => H') (fun z => absurd z (by omega))
    · intro n k _ hk h hw
      obtain ⟨c1, c2, c3, c4⟩ := zq_c hm ht hk
      obtain ⟨q1, q2⟩ := hC k hk
      have t23 : ∀ k, k < 10 → (1023 : Nat).testBit k = true := by decide
      refine pk_le 10 k (fun z => absurd z (by omega)) (fun _ => br_f (zq_bit1 (by decide) (by omega) (t23 k hk)) ?_)
      cases hb : p.testBit k with
      | false =>
        refine br_t (zq_bit0 (by omega) (by omega) hb) (br_f (by decide) ?_)
        have np : ¬ p = 1023 := fun z => by rw [z, t23 k hk] at hb; exact absurd hb (by decide)
        have H' := H s
        rw [if_neg np] at H'
        obtain ⟨m, e1, e2, e3⟩ := h9 (zq_ix B k % 5) (Nat.mod_lt _ (by decide))
        rw [nI_clamp (show k < 2 ^ 31 by omega), q1, q2, nI_clamp (show zq_ix B k % 5 < 2 ^ 31 by omega), e1]
        have hma : m < 2 ^ 31 := Nat.lt_of_le_of_lt (zq_orle e3) (Nat.lt_trans (zq_rlt B _) (by decide))
        exact ⟨vp_in_nI hk (by decide), vp_in_nI (by omega) (by decide), vp_in_nI hk (by decide), zq_isIn hma (by omega) (fun _ => br_t rfl H') (fun z => by rw [zq_nsub e3 c4] at z; exact absurd z (by decide))⟩
      | true => exact br_f (zq_bit1 (by omega) (by omega) hb) (br_t rfl (nm_r (nI_1 k) (hw () (fun j hj => by
          by_cases e : j = k
          · rw [e]; exact hb
          · exact h j (by omega)))))
  · intro n a _ ha _ hw
    obtain ⟨m, e1, e2, e3⟩ := h9 a ha
    refine pk_le 5 a (fun z => absurd z (by omega)) (fun _ => ?_)
    rw [nI_clamp (show a < 2 ^ 31 by omega), e1]
    have hma : m < 2 ^ 31 := Nat.lt_of_le_of_lt (zq_orle e3) (Nat.lt_trans (zq_rlt B a) (by decide))
    exact ⟨vp_in_nI ha (by decide), zq_isIn hma (by omega) (fun _ => br_t rfl (nm_r (nI_1 a) (hw () trivial))) (fun z => by rw [zq_nsub e3 (zq_irr hm ha)] at z; exact absurd z (by decide))⟩
end
section
-- part 10: extend, addGroup, byCouples
def zq_fam (K j : Nat) : Int32 := if j = K then 1 else 0
theorem zq_0or (p : Nat) : (0 : Int32) ||| nI p = nI p := by
  rw [show (0 : Int32) = nI 0 from rfl, zq_nor, Nat.zero_or]
theorem zq_dn {q : Nat} (hq : q < 1024) : (nI (q + 1) - 1) &&& nI 1023 = nI q := by
  rw [nI_pred, pk_andN (by omega) 10 (by decide), Nat.mod_eq_of_lt hq]
theorem zq_30 {post : St2 → Prop} {a6 a7 a8 a9 a10 a11 a12 a13 a14 a15 a16 a17 : Nat → Int32} {t B n p : Nat} (hp : p < 1024) (H0 : p = 0 → ∀ x3, wX_extend_5 post 0 (nI 1023) n x3 0 (nI (zq_cn t)) 1 (nI 10) (zq_T1 t) (zq_T2 t) (zq_T3 B) (zq_T4 B) (zq_T5 B) a6 a7 a8 a9 a10 a11 a12 a13 a14 a15 a16 a17) (H1 : ∀ q, p = q + 1 → wX_extend_5 post 0 (nI 1023) n (nI q) 1 (nI (zq_cn t)) 1 (nI 10) (zq_T1 t) (zq_T2 t) (zq_T3 B) (zq_T4 B) (zq_T5 B) a6 a7 a8 a9 a10 a11 a12 a13 a14 a15 a16 a17) : wX_extend_30 post (wX_extend_5 post 0 (nI 1023) n) 0 (nI 1023) (nI p) (nI (zq_cn t)) 1 (nI 10) (zq_T1 t) (zq_T2 t) (zq_T3 B) (zq_T4 B) (zq_T5 B) a6 a7 a8 a9 a10 a11 a12 a13 a14 a15 a16 a17 := by
  refine pk_eq p 0 (fun z => nm_e (H0 z _)) (fun z => ?_)
  obtain ⟨q, rfl⟩ : ∃ q, p = q + 1 := ⟨p - 1, by omega⟩
  exact nm_r (zq_dn (by omega)) (H1 q rfl)
theorem zq_ext5 {post : St2 → Prop} {a6 a7 a8 a10 a11 a12 a14 a15 a16 a17 : Nat → Int32} {t B : Nat} (hm : (t, B) ∈ zq_TL) (ht : t < 3125) (hC : zq_Cp B a10 a11) (H : ∀ a9 a13, (∀ j, j < 1024 → a13 j = zq_fam 1023 j) → post (nI (zq_cn t), 1, nI 10, (zq_T1 t), (zq_T2 t), (zq_T3 B), (zq_T4 B), (zq_T5 B), a6, a7, a8, a9, a10, a11, a12, a13, a14, a15, a16, a17)) : ∀ p, p < 1024 → ∀ a9 a13, (∀ j, j < 1024 → a13 j = if p < 1023 then zq_fam 1023 j else 0) → wX_extend_5 post 0 (nI 1023) (p + 2) (nI p) 1 (nI (zq_cn t)) 1 (nI 10) (zq_T1 t) (zq_T2 t) (zq_T3 B) (zq_T4 B) (zq_T5 B) a6 a7 a8 a9 a10 a11 a12 a13 a14 a15 a16 a17 := by
  intro p
  induction p with
  | zero =>
    intro hp a9 a13 h
    refine br_f (by decide) ?_
    rw [zq_0or]
    exact zq_isComp hm ht hp hC (fun s => br_t (if_neg (by decide)) (zq_30 hp (fun _ x3 => br_t rfl (H s a13 h)) (fun q z => absurd z (by omega))))
  | succ p ih =>
    intro hp a9 a13 h
    refine br_f (by decide) ?_
    rw [zq_0or]
    refine zq_isComp hm ht hp hC (fun s => ?_)
    by_cases e : p + 1 = 1023
    · refine br_f (by rw [if_pos e]; decide) ?_
      rw [nI_clamp (show p + 1 < 2 ^ 31 by omega)]
      refine ⟨vp_in_nI hp (by decide), nm_e (zq_30 hp (fun z => absurd z (by omega)) (fun q z => ?_))⟩
      obtain rfl : p = q := by omega
      refine ih (by omega) s _ (fun j hj => ?_)
      rw [if_pos (by omega), e]
      unfold zq_fam
      by_cases g : j = 1023
      · rw [g, pk_us, if_pos rfl]
      · rw [pk_un g, if_neg g, h j hj, if_neg (by omega)]
    · refine br_t (if_neg e) (zq_30 hp (fun z => absurd z (by omega)) (fun q z => ?_))
      obtain rfl : p = q := by omega
      refine ih (by omega) s a13 (fun j hj => ?_)
      rw [h j hj, if_pos (by omega), if_pos (by omega)]
theorem zq_extend {post : St2 → Prop} {a6 a7 a8 a9 a10 a11 a12 a13 a14 a15 a16 a17 : Nat → Int32} {t B : Nat} (hm : (t, B) ∈ zq_TL) (ht : t < 3125) (hC : zq_Cp B a10 a11) (h13 : ∀ j, j < 1024 → a13 j = (fun _ => (0 : Int32)) j) (H : ∀ a9 a13, (∀ j, j < 1024 → a13 j = zq_fam 1023 j) → post (nI (zq_cn t), 1, nI 10, (zq_T1 t), (zq_T2 t), (zq_T3 B), (zq_T4 B), (zq_T5 B), a6, a7, a8, a9, a10, a11, a12, a13, a14, a15, a16, a17)) : wpX_extend post (nI (zq_cn t), 1, nI 10, (zq_T1 t), (zq_T2 t), (zq_T3 B), (zq_T4 B), (zq_T5 B), a6, a7, a8, a9, a10, a11, a12, a13, a14, a15, a16, a17) 0 (nI 1023) :=
  ⟨1025, zq_ext5 hm ht hC H 1023 (by omega) a9 a13 (fun j hj => by rw [if_neg (by omega)]; exact h13 j hj)⟩
theorem zq_narB (K j : Nat) : vp_nar .boolean (zq_fam K j) = zq_fam K j := by
  unfold zq_fam
  by_cases e : j = K
  · rw [if_pos e]
    rfl
  · rw [if_neg e]
    rfl
theorem zq_addGroup {post : St2 → Prop} {a6 a7 a8 a9 a10 a11 a12 a13 a14 a15 a16 a17 : Nat → Int32} {t B : Nat} (hm : (t, B) ∈ zq_TL) (ht : t < 3125) (hC : zq_Cp B a10 a11) (h12 : ∀ j, j < 1024 → a12 j = zq_fam 0 j) (H : ∀ a9 a12 a13, (∀ j, j < 1024 → a12 j = zq_fam 1023 j) → post (nI (zq_cn t), 1, nI 10, (zq_T1 t), (zq_T2 t), (zq_T3 B), (zq_T4 B), (zq_T5 B), a6, a7, a8, a9, a10, a11, a12, a13, a14, a15, a16, a17)) : wpX_addGroup post (nI (zq_cn t), 1, nI 10, (zq_T1 t), (zq_T2 t), (zq_T3 B), (zq_T4 B), (zq_T5 B), a6, a7, a8, a9, a10, a11, a12, a13, a14, a15, a16, a17) 0 (nI 1023) := by
  refine pk_loop (fun n i s => wX_addGroup_2 post 0 (nI 1023) (nI (zq_cn t)) 1 (nI 10) n (nI i) (zq_T1 t) (zq_T2 t) (zq_T3 B) (zq_T4 B) (zq_T5 B) a6 a7 a8 a9 a10 a11 a12 s a14 a15 a16 a17) (fun i s => ∀ j, j < i → s j = (fun _ => (0 : Int32)) j) 1024 0 a13 (by omega) (fun j hj => absurd hj (by omega)) ?_ ?_
  · intro n s h
    refine pk_le 1024 1024 (fun _ => ⟨2, br_f (by decide) ⟨pk_in 0 1024 (by decide), ?_⟩⟩) (fun z => absurd z (by omega))
    rw [sb_cl0, h12 0 (by decide)]
    refine br_f (by decide) (zq_extend hm ht hC h (fun a9 a13 h13 => nm_e (br_t (by decide) ?_)))
    refine pk_loop (fun n i s => wX_addGroup_54 post (nI (zq_cn t)) 1 (nI 10) n (nI i) (zq_T1 t) (zq_T2 t) (zq_T3 B) (zq_T4 B) (zq_T5 B) a6 a7 a8 a9 a10 a11 s a13 a14 a15 a16 a17) (fun i s => ∀ j, j < i → s j = zq_fam 1023 j) 1024 0 a12 (by omega) (fun j hj => absurd hj (by omega)) ?_ ?_
    · intro n s h
      exact pk_le 1024 1024 (fun _ => H a9 s a13 h) (fun z => absurd z (by omega))
    · intro n i s hi h hw
      refine pk_le 1024 i (fun z => absurd z (by omega)) (fun _ => ?_)
      rw [nI_clamp (show i < 2 ^ 31 by omega), h13 i hi, zq_narB]
      exact ⟨vp_in_nI hi (by decide), vp_in_nI hi (by decide), nm_e (nm_r (nI_1 i) (hw _ (zq_fill rfl h rfl)))⟩
  · intro n i s hi h hw
    exact pk_le 1024 i (fun z => absurd z (by omega)) (fun _ => ⟨pk_in i 1024 hi, nm_e (nm_r (nI_1 i) (hw _ (zq_fill (nI_clamp (by omega)) h rfl)))⟩)
theorem zq_96 {post : Int32 → St2 → Prop} {cc : Int32} {a6 a7 a8 a9 a10 a11 a12 a13 a14 a15 a16 a17 : Nat → Int32} {t B K V : Nat} (hK : K < 1024) (h12 : ∀ j, j < 1024 → a12 j = zq_fam K j) (hU : ∀ ψ : Int32 → Prop, ψ (nI V) → wpX_unbeaten ψ (nI (zq_cn t), 1, cc, (zq_T1 t), (zq_T2 t), (zq_T3 B), (zq_T4 B), (zq_T5 B), a6, a7, a8, a9, a10, a11, a12, a13, a14, a15, a16, a17) (nI K)) (H : post (nI V) (nI (zq_cn t), 1, cc, (zq_T1 t), (zq_T2 t), (zq_T3 B), (zq_T4 B), (zq_T5 B), a6, a7, a8, a9, a10, a11, a12, a13, a14, a15, a16, a17)) : ∃ n, wX_byCouples_96 post (nI (zq_cn t)) 1 cc (zq_T1 t) (zq_T2 t) (zq_T3 B) (zq_T4 B) (zq_T5 B) a6 a7 a8 a9 a10 a11 a12 a13 a14 a15 a16 a17 n 0 0 := by
  refine pk_loop (fun n i (s : Int32) => wX_byCouples_96 post (nI (zq_cn t)) 1 cc (zq_T1 t) (zq_T2 t) (zq_T3 B) (zq_T4 B) (zq_T5 B) a6 a7 a8 a9 a10 a11 a12 a13 a14 a15 a16 a17 n s (nI i)) (fun i s => s = nI (if i ≤ K then 0 else V)) 1024 0 0 (by omega) (by rw [if_pos (Nat.zero_le K)]; rfl) ?_ ?_
  · intro n s h
    subst h
    rw [if_neg (by omega)]
    exact pk_le 1024 1024 (fun _ => H) (fun z => absurd z (by omega))
  · intro n i s hi h hw
    subst h
    refine pk_le 1024 i (fun z => absurd z (by omega)) (fun _ => ⟨pk_in i 1024 hi, ?_⟩)
    rw [nI_clamp (show i < 2 ^ 31 by omega), h12 i hi]
    unfold zq_fam
    by_cases e : i = K
    · subst e
      rw [if_pos rfl, if_pos (Nat.le_refl _)]
      refine br_f (by decide) (hU _ (nm_r (zq_0or V) (nm_r (nI_1 i) (hw _ ?_))))
      rw [if_neg (by omega)]
    · rw [if_neg e]
      refine br_t rfl (nm_r (nI_1 i) (hw _ ?_))
      by_cases g : i ≤ K
      · rw [if_pos g, if_pos (by omega)]
      · rw [if_neg g, if_neg (by omega)]
theorem zq_marg {post : Int32 → Prop} {cc : Int32} {a6 a7 a8 a9 a10 a11 a12 a13 a14 a15 a16 a17 : Nat → Int32} {t B k : Nat} (hm : (t, B) ∈ zq_TL) (ht : t < 3125) (hk : k < 10) (hC : zq_Cp B a10 a11) (H : post 1) : wpX_marginOf post (nI (zq_cn t), 1, cc, (zq_T1 t), (zq_T2 t), (zq_T3 B), (zq_T4 B), (zq_T5 B), a6, a7, a8, a9, a10, a11, a12, a13, a14, a15, a16, a17) (nI k) := by
  obtain ⟨c1, c2, c3, c4⟩ := zq_c hm ht hk
  obtain ⟨q1, q2⟩ := hC k hk
  unfold wpX_marginOf
  dsimp only
  rw [nI_clamp (show k < 2 ^ 31 by omega), q1, q2, zq_55, Nat.div_add_mod, nI_clamp (show zq_ix B k < 2 ^ 31 by omega), c2]
  exact ⟨vp_in_nI hk (by decide), vp_in_nI hk (by decide), vp_in_nI c1 (by decide), H⟩
theorem zq_FU {t B : Nat} (hm : (t, B) ∈ zq_TL) (ht : t < 3125) : zm_unbeaten (fun y => y == nI (zq_win t 10)) (nI 10) (fun k => nI (zq_ix B k % 5)) (nI 1023) = true := by
  have f : zq_all (fun t B => decide (3125 ≤ t) || zm_unbeaten (fun y => y == nI (zq_win t 10)) (nI 10) (fun k => nI (zq_ix B k % 5)) (nI 1023)) = true := by decide +kernel
  have h := zq_allI f hm
  rw [Bool.or_eq_true, decide_eq_true_iff] at h
  rcases h with h | h
  · omega
  · exact h
theorem zq_r10 {post : Int32 → St2 → Prop} {cc : Int32} {a6 a7 a8 a9 a10 a11 a12 a13 a14 a15 a16 a17 : Nat → Int32} {t B : Nat} (hm : (t, B) ∈ zq_TL) (H : ∀ (cc : Int32) (a6 a7 a8 a9 a10 a11 a12 a13 a14 a15 a16 a17 : Nat → Int32), post (nI (zq_win t 10)) (nI (zq_cn t), 1, cc, (zq_T1 t), (zq_T2 t), (zq_T3 B), (zq_T4 B), (zq_T5 B), a6, a7, a8, a9, a10, a11, a12, a13, a14, a15, a16, a17)) : wpX_byCouples post (nI (zq_cn t), 1, cc, (zq_T1 t), (zq_T2 t), (zq_T3 B), (zq_T4 B), (zq_T5 B), a6, a7, a8, a9, a10, a11, a12, a13, a14, a15, a16, a17) := by
  refine zq_list (cc := cc) hm (fun q hq => ?_)
  obtain ⟨cc, a10, a11⟩ := q
  obtain ⟨h1, h2⟩ := hq
  dsimp only at h1 h2
  have e25 : zq_lc B 1 25 = zq_pcN B 25 := if_pos rfl
  rw [e25, zq_pc25 hm] at h1 h2
  subst h1
  refine pk_loop (fun n i s => wX_byCouples_6 post (nI (zq_cn t)) 1 (nI (if t < 3125 then 10 else 0)) n (nI i) (zq_T1 t) (zq_T2 t) (zq_T3 B) (zq_T4 B) (zq_T5 B) a6 a7 a8 a9 a10 a11 s a13 a14 a15 a16 a17) (fun i s => ∀ j, j < i → s j = zq_fam 0 j) 1024 0 a12 (by omega) (fun j hj => absurd hj (by omega)) ?_ ?_
  · intro n s h12
    refine pk_le 1024 1024 (fun _ => ?_) (fun z => absurd z (by omega))
    by_cases ht : t < 3125
    · rw [if_pos ht] at h2 ⊢
      have hC : zq_Cp B a10 a11 := h2
      refine ⟨2, br_f (by decide) (zq_marg hm ht (k := 0) (by decide) hC ?_)⟩
      refine pk_loop (σ := Unit) (fun n i _ => wX_byCouples_52 post (wX_byCouples_36 post 1) 0 1 (nI (zq_cn t)) 1 (nI 10) (zq_T1 t) (zq_T2 t) (zq_T3 B) (zq_T4 B) (zq_T5 B) a6 a7 a8 a9 a10 a11 s a13 a14 a15 a16 a17 n (nI i)) (fun _ _ => True) 10 0 () (by omega) trivial ?_ ?_
      · intro n _ _
        refine pk_le 10 10 (fun _ => ?_) (fun z => absurd z (by omega))
        unfold wX_byCouples_75
        rw [show ((1 : Int32) <<< (nI 10 &&& 31)) - ((1 : Int32) <<< (0 &&& 31)) = nI 1023 from by decide]
        exact zq_addGroup hm ht hC h12 (fun a9 a12 a13 h => br_t (by decide) (zq_96 (V := zq_win t 10) (by decide) h (fun ψ hψ => zq_s_unbeaten (zq_FU hm ht) (zq_eqk hψ) (fun k hk => (hC k hk).2)) (H _ _ _ _ _ _ _ _ _ _ _ _ _)))
      · intro n k _ hk _ hw
        exact pk_le 10 k (fun z => absurd z (by omega)) (fun _ => zq_marg hm ht hk hC (br_t rfl (nm_r (nI_1 k) (hw () trivial))))
    · rw [if_neg ht] at h2 ⊢
      have ew : zq_win t 10 = 31 := if_neg ht
      have H' := fun cc a6 a7 a8 a9 a10 a11 a12 a13 a14 a15 a16 a17 => H cc a6 a7 a8 a9 a10 a11 a12 a13 a14 a15 a16 a17
      rw [ew] at H'
      exact ⟨1, br_t (by decide) (zq_96 (V := 31) (K := 0) (by decide) h12 (fun ψ hψ => ⟨1, br_t (by decide) hψ⟩) (H' _ _ _ _ _ _ _ _ _ _ _ _ _))⟩
  · intro n i s hi h hw
    refine pk_le 1024 i (fun z => absurd z (by omega)) (fun _ => pk_eq i 0 (fun z => ⟨pk_in i 1024 hi, nm_e (nm_r (nI_1 i) (hw _ (zq_fill (nI_clamp (by omega)) h ?_)))⟩) (fun z => ⟨pk_in i 1024 hi, nm_e (nm_r (nI_1 i) (hw _ (zq_fill (nI_clamp (by omega)) h ?_)))⟩))
    · exact (if_pos z).symm
    · exact (if_neg z).symm
end
section
-- part 11: removals, swaps
def zq_rm (t c : Nat) : Int32 := if t < 3125 ∧ zq_pl t c = 0 then 0 else -1002
def zq_sw (t c : Nat) : Int32 := if t < 3125 then nI (zq_pl t c) else -1002
theorem zq_removals {post : Int32 → Prop} {cc : Int32} {a6 a7 a8 a9 a10 a11 a12 a13 a14 a15 a16 a17 : Nat → Int32} {t B c : Nat} (hm : (t, B) ∈ zq_TL) (hc : c < 5) (H : post (zq_rm t c)) : wpX_removalsOf post (nI (zq_cn t), 1, cc, (zq_T1 t), (zq_T2 t), (zq_T3 B), (zq_T4 B), (zq_T5 B), a6, a7, a8, a9, a10, a11, a12, a13, a14, a15, a16, a17) (nI c) := by
  have f : zq_all (fun t B => zq_rg 5 (fun c => zm_removalsOf (fun y => y == zq_rm t c) (nI (zq_cn t)) (zq_T3 B) (nI c))) = true := by decide +kernel
  exact zq_s_removalsOf (zq_rgI (zq_allI f hm) hc) (zq_eqk H)
def zq_kk (c b : Nat) : Nat := if b ≤ c then b else b - 1
def zq_OT (c i : Nat) : Nat := if i < c then i else i + 1
def zq_lk (B c b : Nat) : Nat := if zq_T4 B (5 * c + b) ≤ 0 then 1 else 0
def zq_fl (B c : Nat) : Nat → Nat
  | 0 => 0
  | b + 1 => if b = c then zq_fl B c b else zq_fl B c b + 6 ^ zq_kk c b * zq_lk B c b
theorem zq_FL {t B : Nat} (hm : (t, B) ∈ zq_TL) (ht : t < 3125) {c b : Nat} (hc : c < 5) (hb : b < 5) (hn : b ≠ c) (h : zq_T4 B (5 * c + b) ≤ 0) : ((-(zq_T4 B (5 * c + b))) / 2) + 1 = nI 1 := by
  have f : zq_all (fun t B => decide (3125 ≤ t) || zq_rg 5 (fun c => zq_rg 5 (fun b => decide (b = c) || !(decide (zq_T4 B (5 * c + b) ≤ 0)) || (((-(zq_T4 B (5 * c + b))) / 2) + 1 == nI 1)))) = true := by decide +kernel
  have g := zq_allI f hm
  rw [Bool.or_eq_true, decide_eq_true_iff] at g
  rcases g with g | g
  · omega
  · have q := zq_rgI (zq_rgI g hc) hb
    rw [Bool.or_eq_true, Bool.or_eq_true, decide_eq_true_iff, Bool.not_eq_true', decide_eq_false_iff_not] at q
    rcases q with (q | q) | q
    · exact absurd q hn
    · exact absurd h q
    · exact eq_of_beq q
theorem zq_68 {post : Int32 → St2 → Prop} {J : Int32 → Int32 → Int32 → Int32 → (Nat → Int32) → (Nat → Int32) → (Nat → Int32) → (Nat → Int32) → (Nat → Int32) → (Nat → Int32) → (Nat → Int32) → (Nat → Int32) → (Nat → Int32) → (Nat → Int32) → (Nat → Int32) → (Nat → Int32) → (Nat → Int32) → (Nat → Int32) → (Nat → Int32) → (Nat → Int32) → (Nat → Int32) → Prop} {c0 c1 cc : Int32} {a1 a2 a3 a4 a5 a6 a7 a8 a9 a10 a11 a12 a13 a14 a15 a16 a17 : Nat → Int32} {x1 z0 : Int32} {k f w b l : Nat} (hk : k < 4) (hl : l < 2) (hz : z0 = nI l) (H : ∀ s, J (nI (k + 1)) (nI (f + w * l)) (nI (w * 6)) (nI (b + 1)) a1 a2 a3 a4 a5 a6 a7 a8 a9 a10 a11 a12 a13 s a15 a16 a17) : wX_findLacking_68 post J x1 (nI k) (nI f) (nI w) (nI b) z0 (nI k) c0 c1 cc a1 a2 a3 a4 a5 a6 a7 a8 a9 a10 a11 a12 a13 a14 a15 a16 a17 := by
  subst hz
  unfold wX_findLacking_68
  rw [nI_clamp (show k < 2 ^ 31 by omega), zq_i8 (show l < 128 by omega)]
  refine ⟨vp_in_nI hk (by decide), nm_e ?_⟩
  rw [pk_us]
  exact ⟨vp_in_nI hk (by decide), nm_r (by rw [pk_mul, nI_add]) (nm_r (by rw [show (6 : Int32) = nI 6 from rfl, pk_mul]) (nm_r (nI_1 k) (nm_r (nI_1 b) (H _))))⟩
theorem zq_lack {post : Int32 → St2 → Prop} {cc : Int32} {a6 a7 a8 a9 a10 a11 a12 a13 a14 a15 a16 a17 : Nat → Int32} {t B c : Nat} (hm : (t, B) ∈ zq_TL) (ht : t < 3125) (hc : c < 5) (H : ∀ a14 a15, (∀ i, i < 4 → a15 i = nI (zq_OT c i)) → post (nI (zq_fl B c 5)) (nI (zq_cn t), 1, cc, (zq_T1 t), (zq_T2 t), (zq_T3 B), (zq_T4 B), (zq_T5 B), a6, a7, a8, a9, a10, a11, a12, a13, a14, a15, a16, a17)) : wpX_findLacking post (nI (zq_cn t), 1, cc, (zq_T1 t), (zq_T2 t), (zq_T3 B), (zq_T4 B), (zq_T5 B), a6, a7, a8, a9, a10, a11, a12, a13, a14, a15, a16, a17) (nI c) := by
  refine pk_loop (σ := (Nat → Int32) × (Nat → Int32)) (fun n b s => wX_findLacking_10 post (nI c) (nI (zq_cn t)) 1 cc n (nI (zq_kk c b)) (nI (zq_fl B c b)) (nI (6 ^ zq_kk c b)) (nI b) (zq_T1 t) (zq_T2 t) (zq_T3 B) (zq_T4 B) (zq_T5 B) a6 a7 a8 a9 a10 a11 a12 a13 s.1 s.2 a16 a17) (fun b s => ∀ i, i < zq_kk c b → s.2 i = nI (zq_OT c i)) 5 0 (a14, a15) (by omega) (fun i hi => absurd hi (by unfold zq_kk; rw [if_pos (Nat.zero_le c)]; omega)) ?_ ?_
  · intro n s h
    have e : zq_kk c 5 = 4 := if_neg (by omega)
    rw [e] at h
    exact pk_le 5 5 (fun _ => H s.1 s.2 h) (fun z => absurd z (by omega))
  · intro n b s hb h hw
    obtain ⟨s1, s2⟩ := s
    dsimp only at h
    refine pk_le 5 b (fun z => absurd z (by omega)) (fun _ => pk_eq b c (fun z => nm_r (nI_1 b) ?_) (fun z => ?_))
    · have e1 : zq_kk c (b + 1) = zq_kk c b := by
        unfold zq_kk
        rw [if_neg (by omega), if_pos (by omega)]
        omega
      have e2 : zq_fl B c (b + 1) = zq_fl B c b := if_pos z
      have q := hw (s1, s2) (by rw [e1]; exact h)
      rw [e1, e2] at q
      exact q
    · have e1 : zq_kk c (b + 1) = zq_kk c b + 1 := by
        unfold zq_kk
        by_cases g : b < c
        · rw [if_pos (by omega), if_pos (by omega)]
        · rw [if_neg (by omega), if_neg (by omega)]
          omega
      have e2 : zq_fl B c (b + 1) = zq_fl B c b + 6 ^ zq_kk c b * zq_lk B c b := if_neg z
      have e3 : 6 ^ zq_kk c b * 6 = 6 ^ zq_kk c (b + 1) := by rw [e1, Nat.pow_succ]
      have hk : zq_kk c b < 4 := by
        unfold zq_kk
        by_cases g : b ≤ c
        · rw [if_pos g]; omega
        · rw [if_neg g]; omega
      have eo : zq_OT c (zq_kk c b) = b := by
        unfold zq_OT zq_kk
        by_cases g : b ≤ c
        · rw [if_pos g, if_pos (by omega)]
        · rw [if_neg g, if_neg (by omega)]
          omega
      have h' : ∀ i, i < zq_kk c (b + 1) → upd s2 (zq_kk c b) (nI b) i = nI (zq_OT c i) := by
        rw [e1]
        exact zq_fill (f := fun i => nI (zq_OT c i)) rfl h (by rw [eo])
      rw [zq_55, nI_clamp (show 5 * c + b < 2 ^ 31 by omega), nI_clamp (show zq_kk c b < 2 ^ 31 by omega), zq_i8 (show b < 128 by omega)]
      refine ⟨vp_in_nI (by omega) (by decide), nm_e ⟨vp_in_nI hk (by decide), nm_e (br_c (fun y => ⟨by decide, zq_68 (l := zq_lk B c b) hk ?_ ?_ (fun s => ?_)⟩) (fun y => zq_68 (l := zq_lk B c b) hk ?_ ?_ (fun s => ?_)))⟩⟩
      · unfold zq_lk; rw [if_pos y]; decide
      · rw [zq_FL hm ht hc hb z y]; unfold zq_lk; rw [if_pos y]
      · rw [e3, ← e2, ← e1]
        exact hw (s, _) h'
      · unfold zq_lk; rw [if_neg y]; decide
      · unfold zq_lk; rw [if_neg y]; rfl
      · rw [e3, ← e2, ← e1]
        exact hw (s, _) h'
/-- the state after moving up by some places -/
def zq_S (t B c : Nat) : Nat → Nat
  | 0 => zq_fl B c 5
  | u + 1 => zq_S t B c u - 6 ^ zq_kk c (zq_d t (zq_pl t c - (u + 1)))
noncomputable def zq_SQ (t B c : Nat) : Bool := decide (zq_pl t c < 5) && (zq_S t B c (zq_pl t c) == 0) && (zq_d t (zq_pl t c) == c) && zq_rg (zq_pl t c) (fun u => decide (0 < zq_S t B c u) && decide (zq_S t B c u < 1296) && !(zq_d t u == c) && zm_gainOver (fun y => y == nI (zq_S t B c (u + 1))) (fun k => nI (zq_OT c k)) (nI (zq_S t B c u)) (nI (zq_d t (zq_pl t c - (u + 1)))))
theorem zq_SF {t B : Nat} (hm : (t, B) ∈ zq_TL) (ht : t < 3125) {c : Nat} (hc : c < 5) : zq_pl t c < 5 ∧ zq_S t B c (zq_pl t c) = 0 ∧ zq_d t (zq_pl t c) = c ∧ ∀ u, u < zq_pl t c → 0 < zq_S t B c u ∧ zq_S t B c u < 1296 ∧ zq_d t u ≠ c ∧ zm_gainOver (fun y => y == nI (zq_S t B c (u + 1))) (fun k => nI (zq_OT c k)) (nI (zq_S t B c u)) (nI (zq_d t (zq_pl t c - (u + 1)))) = true := by
  have f : zq_all (fun t B => decide (3125 ≤ t) || zq_rg 5 (fun c => zq_SQ t B c)) = true := by decide +kernel
  have g := zq_allI f hm
  rw [Bool.or_eq_true, decide_eq_true_iff] at g
  rcases g with g | g
  · omega
  · have q : zq_SQ t B c = true := zq_rgI g hc
    unfold zq_SQ at q
    rw [Bool.and_eq_true, Bool.and_eq_true, Bool.and_eq_true, decide_eq_true_iff] at q
    refine ⟨q.1.1.1, eq_of_beq q.1.1.2, eq_of_beq q.1.2, fun u hu => ?_⟩
    have r := zq_rgI q.2 hu
    rw [Bool.and_eq_true, Bool.and_eq_true, Bool.and_eq_true, decide_eq_true_iff, decide_eq_true_iff, Bool.not_eq_true'] at r
    exact ⟨r.1.1.1, r.1.1.2, fun z => by rw [z, beq_self_eq_true] at r; exact absurd r.1.2 (by decide), r.2⟩
theorem zq_S0 {t B : Nat} (hm : (t, B) ∈ zq_TL) (ht : t < 3125) {c : Nat} (hc : c < 5) {u : Nat} (hu : u ≤ zq_pl t c) : zq_S t B c u < 1296 := by
  obtain ⟨p1, p2, p3, p4⟩ := zq_SF hm ht hc
  by_cases e : u = zq_pl t c
  · rw [e, p2]; decide
  · exact (p4 u (by omega)).2.1
end
section
-- part 12: moveUp, useBallot, swapsOf, fewest
def zq_I7 (p u : Nat) (s : Nat → Int32) : Prop := if u ≤ p then s 0 = 100 else s 0 = nI p
theorem zq_38 {post : St2 → Prop} {J : Int32 → Int32 → (Nat → Int32) → (Nat → Int32) → (Nat → Int32) → (Nat → Int32) → (Nat → Int32) → (Nat → Int32) → (Nat → Int32) → (Nat → Int32) → (Nat → Int32) → (Nat → Int32) → (Nat → Int32) → (Nat → Int32) → (Nat → Int32) → (Nat → Int32) → (Nat → Int32) → (Nat → Int32) → (Nat → Int32) → Prop} {c0 c1 cc : Int32} {a1 a2 a3 a4 a5 a6 a7 a8 a9 a10 a11 a12 a13 a14 a15 a16 a17 : Nat → Int32} {x1 x2 : Int32} {st q u p : Nat} (hst : st < 1296) (hq : q < 1296) (hu : u ≤ p) (hp : p < 5) (h0 : u < p → 0 < q) (h1 : u = p → q = 0) (h16 : a16 st = 0) (h17 : a17 0 = 100) (H : ∀ s, zq_I7 p (u + 1) s → J (nI q) (nI (u + 1)) a1 a2 a3 a4 a5 a6 a7 a8 a9 a10 a11 a12 a13 a14 a15 a16 s) : wX_moveUp_38 post J x1 x2 (nI st) (nI q) (nI u) c0 c1 cc a1 a2 a3 a4 a5 a6 a7 a8 a9 a10 a11 a12 a13 a14 a15 a16 a17 := by
  unfold wX_moveUp_38
  rw [nI_clamp (show st < 2 ^ 31 by omega), nI_clamp (show q < 2 ^ 31 by omega), h16, show (0 : Int32) + nI u = nI u from Int32.zero_add _, zq_i8 (show u < 128 by omega)]
  refine ⟨vp_in_nI hst (by decide), vp_in_nI hq (by decide), ?_⟩
  by_cases e : u = p
  · have eq := h1 e
    subst eq
    rw [h17]
    refine br_f (nI_ge (a := u) (b := 100) (by omega) (by decide)) ⟨vp_in_nI hst (by decide), vp_in_nI hq (by decide), nm_e (nm_r (nI_1 u) (H _ ?_))⟩
    unfold zq_I7
    rw [if_neg (by omega), pk_us, e]
  · have hq0 := h0 (by omega)
    refine br_c (fun z => nm_r (nI_1 u) (H _ ?_)) (fun z => ⟨vp_in_nI hst (by decide), vp_in_nI hq (by decide), nm_e (nm_r (nI_1 u) (H _ ?_))⟩)
    · unfold zq_I7
      rw [if_pos (by omega)]
      exact h17
    · unfold zq_I7
      rw [if_pos (by omega), pk_un (by omega)]
      exact h17
theorem zq_moveUp {post : St2 → Prop} {cc : Int32} {a6 a7 a8 a9 a10 a11 a12 a13 a14 a15 a16 a17 : Nat → Int32} {t B c : Nat} (hm : (t, B) ∈ zq_TL) (ht : t < 3125) (hc : c < 5) (h15 : ∀ i, i < 4 → a15 i = nI (zq_OT c i)) (h16 : a16 (zq_fl B c 5) = 0) (h17 : a17 0 = 100) (H : ∀ s, s 0 = nI (zq_pl t c) → post (nI (zq_cn t), 1, cc, (zq_T1 t), (zq_T2 t), (zq_T3 B), (zq_T4 B), (zq_T5 B), a6, a7, a8, a9, a10, a11, a12, a13, a14, a15, a16, s)) : wpX_moveUp post (nI (zq_cn t), 1, cc, (zq_T1 t), (zq_T2 t), (zq_T3 B), (zq_T4 B), (zq_T5 B), a6, a7, a8, a9, a10, a11, a12, a13, a14, a15, a16, a17) 0 (nI (zq_pl t c)) (nI (zq_fl B c 5)) := by
  obtain ⟨p1, p2, p3, p4⟩ := zq_SF hm ht hc
  have hst : zq_fl B c 5 < 1296 := zq_S0 hm ht hc (Nat.zero_le _)
  refine pk_loop (fun n u s => wX_moveUp_6 post 0 (nI (zq_pl t c)) (nI (zq_fl B c 5)) (nI (zq_cn t)) 1 cc n (nI (zq_S t B c (u - 1))) (nI u) (zq_T1 t) (zq_T2 t) (zq_T3 B) (zq_T4 B) (zq_T5 B) a6 a7 a8 a9 a10 a11 a12 a13 a14 a15 a16 s) (fun u s => zq_I7 (zq_pl t c) u s) (zq_pl t c + 1) 0 a17 (by omega) ?_ ?_ ?_
  · unfold zq_I7
    rw [if_pos (Nat.zero_le _)]
    exact h17
  · intro n s h
    unfold zq_I7 at h
    rw [if_neg (by omega)] at h
    exact pk_lt (zq_pl t c) (zq_pl t c + 1) (fun _ => H s h) (fun z => absurd z (by omega))
  · intro n u s hu h hw
    unfold zq_I7 at h
    rw [if_pos (by omega)] at h
    have K : ∀ q, q = zq_S t B c u → wX_moveUp_38 post (wX_moveUp_6 post 0 (nI (zq_pl t c)) (nI (zq_fl B c 5)) (nI (zq_cn t)) 1 cc n) 0 (nI (zq_pl t c)) (nI (zq_fl B c 5)) (nI q) (nI u) (nI (zq_cn t)) 1 cc (zq_T1 t) (zq_T2 t) (zq_T3 B) (zq_T4 B) (zq_T5 B) a6 a7 a8 a9 a10 a11 a12 a13 a14 a15 a16 s := by
      intro q eq
      subst eq
      exact zq_38 hst (zq_S0 hm ht hc (by omega)) (by omega) p1 (fun z => (p4 u z).1) (fun z => by rw [z]; exact p2) h16 h (fun s' h' => hw s' h')
    refine pk_lt (zq_pl t c) u (fun z => absurd z (by omega)) (fun _ => pk_le u 0 (fun z => ?_) (fun z => ?_))
    · have e : u = 0 := by omega
      subst e
      exact K (zq_S t B c 0) rfl
    · obtain ⟨w, rfl⟩ : ∃ w, u = w + 1 := ⟨u - 1, by omega⟩
      have ei : (((5 : Int32) * 0) + nI (zq_pl t c)) - nI (w + 1) = nI (zq_pl t c - (w + 1)) := by rw [zq_50, pk_sub (by omega)]
      rw [ei, nI_clamp (show zq_pl t c - (w + 1) < 2 ^ 31 by omega), zq_T2e ht (show zq_pl t c - (w + 1) < 5 by omega)]
      exact ⟨vp_in_nI (by omega) (by decide), zq_s_gainOver (p4 w (by omega)).2.2.2 (zq_eqk (K _ rfl)) h15⟩
theorem zq_useBallot {post : St2 → Prop} {cc : Int32} {a6 a7 a8 a9 a10 a11 a12 a13 a14 a15 a16 a17 : Nat → Int32} {t B c : Nat} (hm : (t, B) ∈ zq_TL) (ht : t < 3125) (hc : c < 5) (h15 : ∀ i, i < 4 → a15 i = nI (zq_OT c i)) (h16 : ∀ j, j < 1296 → a16 j = if j = zq_fl B c 5 then 0 else 100) (H : ∀ a16 a17, a16 0 = nI (zq_pl t c) → post (nI (zq_cn t), 1, cc, (zq_T1 t), (zq_T2 t), (zq_T3 B), (zq_T4 B), (zq_T5 B), a6, a7, a8, a9, a10, a11, a12, a13, a14, a15, a16, a17)) : wpX_useBallot post (nI (zq_cn t), 1, cc, (zq_T1 t), (zq_T2 t), (zq_T3 B), (zq_T4 B), (zq_T5 B), a6, a7, a8, a9, a10, a11, a12, a13, a14, a15, a16, a17) 0 (nI c) := by
  obtain ⟨p1, p2, p3, p4⟩ := zq_SF hm ht hc
  have hst : zq_fl B c 5 < 1296 := zq_S0 hm ht hc (Nat.zero_le _)
  refine pk_loop (fun n i s => wX_useBallot_2 post 0 (nI c) (nI (zq_cn t)) 1 cc n (nI i) (zq_T1 t) (zq_T2 t) (zq_T3 B) (zq_T4 B) (zq_T5 B) a6 a7 a8 a9 a10 a11 a12 a13 a14 a15 a16 s) (fun i s => ∀ j, j < i → s j = (fun _ => (100 : Int32)) j) 1296 0 a17 (by omega) (fun j hj => absurd hj (by omega)) ?_ ?_
  · intro n s hs
    refine pk_le 1296 1296 (fun _ => ?_) (fun z => absurd z (by omega))
    refine pk_loop (σ := Unit) (fun n i _ => wX_useBallot_25 post 0 (nI c) (nI (zq_cn t)) 1 cc (zq_T1 t) (zq_T2 t) (zq_T3 B) (zq_T4 B) (zq_T5 B) a6 a7 a8 a9 a10 a11 a12 a13 a14 a15 a16 s n (nI i)) (fun _ _ => True) (zq_pl t c) 0 () (by omega) trivial ?_ ?_
    · intro n _ _
      refine ⟨pk_in (zq_pl t c) 45 (by omega) (zq_50 _), ?_⟩
      rw [zq_50, nI_clamp (show zq_pl t c < 2 ^ 31 by omega), zq_T2e ht p1, p3]
      refine br_t rfl ?_
      refine pk_loop (fun n i s => wX_useBallot_48 post 0 (nI (zq_pl t c)) n (nI i) (nI (zq_cn t)) 1 cc (zq_T1 t) (zq_T2 t) (zq_T3 B) (zq_T4 B) (zq_T5 B) a6 a7 a8 a9 a10 a11 a12 a13 a14 a15 a16 s) (fun i s => if i ≤ zq_fl B c 5 then s 0 = 100 else s 0 = nI (zq_pl t c)) 1296 0 s (by omega) ?_ ?_ ?_
      · rw [if_pos (Nat.zero_le _)]
        exact hs 0 (by decide)
      · intro n s h
        rw [if_neg (by omega)] at h
        refine pk_le 1296 1296 (fun _ => ?_) (fun z => absurd z (by omega))
        refine pk_loop (fun n i w => wX_useBallot_85 post (nI (zq_cn t)) 1 cc n (nI i) (zq_T1 t) (zq_T2 t) (zq_T3 B) (zq_T4 B) (zq_T5 B) a6 a7 a8 a9 a10 a11 a12 a13 a14 a15 w s) (fun i w => 0 < i → w 0 = nI (zq_pl t c)) 1296 0 a16 (by omega) (fun z => absurd z (by omega)) ?_ ?_
        · intro n w hw
          exact pk_le 1296 1296 (fun _ => H w s (hw (by decide))) (fun z => absurd z (by omega))
        · intro n i w hi hI hw
          refine pk_le 1296 i (fun z => absurd z (by omega)) (fun _ => ?_)
          rw [nI_clamp (show i < 2 ^ 31 by omega)]
          refine ⟨vp_in_nI hi (by decide), vp_in_nI hi (by decide), nm_e (nm_r (nI_1 i) (hw _ (fun _ => ?_)))⟩
          by_cases e : i = 0
          · subst e
            rw [pk_us, h, vp_nar_byte, zq_i8 (by omega)]
          · rw [pk_un (fun z => e z.symm)]
            exact hI (by omega)
      · intro n i s hi h hw
        refine pk_le 1296 i (fun z => absurd z (by omega)) (fun _ => ⟨pk_in i 1296 hi, ?_⟩)
        rw [nI_clamp (show i < 2 ^ 31 by omega), h16 i hi]
        by_cases e : i = zq_fl B c 5
        · subst e
          rw [if_pos rfl]
          rw [if_pos (Nat.le_refl _)] at h
          refine br_f (by decide) (zq_moveUp hm ht hc h15 (by rw [h16 _ hst, if_pos rfl]) h (fun s' h' => nm_r (nI_1 _) (hw s' ?_)))
          rw [if_neg (by omega)]
          exact h'
        · rw [if_neg e]
          refine br_t (by decide) (nm_r (nI_1 i) (hw s ?_))
          by_cases g : i ≤ zq_fl B c 5
          · rw [if_pos g] at h
            rw [if_pos (by omega)]
            exact h
          · rw [if_neg g] at h
            rw [if_neg (by omega)]
            exact h
    · intro n i _ hi _ hw
      refine ⟨pk_in i 45 (by omega) (zq_50 _), ?_⟩
      rw [zq_50, nI_clamp (show i < 2 ^ 31 by omega), zq_T2e ht (by omega)]
      have d := zq_dlt t i
      exact pk_eq (zq_d t i) c (fun z => absurd z (p4 i hi).2.2.1) (fun z => nm_r (nI_1 i) (hw () trivial))
  · intro n i s hi h hw
    exact pk_le 1296 i (fun z => absurd z (by omega)) (fun _ => ⟨pk_in i 1296 hi, nm_e (nm_r (nI_1 i) (hw _ (zq_fill (nI_clamp (by omega)) h rfl)))⟩)
theorem zq_swapsOf {post : Int32 → St2 → Prop} {cc : Int32} {a6 a7 a8 a9 a10 a11 a12 a13 a14 a15 a16 a17 : Nat → Int32} {t B c : Nat} (hm : (t, B) ∈ zq_TL) (hc : c < 5) (H : ∀ (cc : Int32) (a6 a7 a8 a9 a10 a11 a12 a13 a14 a15 a16 a17 : Nat → Int32), post (zq_sw t c) (nI (zq_cn t), 1, cc, (zq_T1 t), (zq_T2 t), (zq_T3 B), (zq_T4 B), (zq_T5 B), a6, a7, a8, a9, a10, a11, a12, a13, a14, a15, a16, a17)) : wpX_swapsOf post (nI (zq_cn t), 1, cc, (zq_T1 t), (zq_T2 t), (zq_T3 B), (zq_T4 B), (zq_T5 B), a6, a7, a8, a9, a10, a11, a12, a13, a14, a15, a16, a17) (nI c) := by
  by_cases ht : t < 3125
  · obtain ⟨p1, p2, p3, p4⟩ := zq_SF hm ht hc
    have hst : zq_fl B c 5 < 1296 := zq_S0 hm ht hc (Nat.zero_le _)
    have ew : zq_sw t c = nI (zq_pl t c) := if_pos ht
    have ec := zq_cn1 ht
    refine br_f (by rw [ec]; decide) (zq_lack hm ht hc (fun a14 a15 h15 => ?_))
    refine pk_loop (fun n i s => wX_swapsOf_19 post (nI c) (nI (zq_fl B c 5)) (nI (zq_cn t)) 1 cc n (nI i) (zq_T1 t) (zq_T2 t) (zq_T3 B) (zq_T4 B) (zq_T5 B) a6 a7 a8 a9 a10 a11 a12 a13 a14 a15 s a17) (fun i s => ∀ j, j < i → s j = (fun _ => (100 : Int32)) j) 1296 0 a16 (by omega) (fun j hj => absurd hj (by omega)) ?_ ?_
    · intro n s hs
      refine pk_le 1296 1296 (fun _ => ⟨vp_in_nI hst (by decide), nm_e ⟨2, br_f (by rw [ec]; decide) (zq_useBallot hm ht hc h15 ?_ (fun a16 a17 h => nm_e (br_t (by rw [ec]; decide) (br_f ?_ ?_))))⟩⟩) (fun z => absurd z (by omega))
      · intro j hj
        rw [nI_clamp (Nat.lt_trans hst (by decide))]
        by_cases e : j = zq_fl B c 5
        · rw [e, pk_us, if_pos rfl]
        · rw [pk_un e, if_neg e]
          exact hs j hj
      · rw [h]
        intro z
        have z' : nI (zq_pl t c) = nI 100 := z
        rw [nI_eq (by omega) (by decide)] at z'
        omega
      · rw [h, ← ew]
        exact H _ _ _ _ _ _ _ _ _ _ _ _ _
    · intro n i s hi h hw
      exact pk_le 1296 i (fun z => absurd z (by omega)) (fun _ => ⟨pk_in i 1296 hi, nm_e (nm_r (nI_1 i) (hw _ (zq_fill (nI_clamp (by omega)) h rfl)))⟩)
  · have ew : zq_sw t c = -1002 := if_neg ht
    have H' := H cc a6 a7 a8 a9 a10 a11 a12 a13 a14 a15 a16 a17
    rw [ew] at H'
    exact br_t (by rw [zq_cn0 ht]; rfl) H'
/-! fewest -/
def zq_stp (i : Nat) (v s l : Int32) : Int32 × Int32 := if 0 ≤ v then (if l ≤ v then (if l < v then (s, l) else (s ||| ((1 : Int32) <<< (nI i &&& 31)), v)) else (if l < v then (0, l) else (0 ||| ((1 : Int32) <<< (nI i &&& 31)), v))) else (s, l)
def zq_fv (t r c : Nat) : Int32 := if r = 15 then zq_sw t c else zq_rm t c
def zq_fw (t r : Nat) : Nat → Int32 × Int32
  | 0 => (0, 1000)
  | i + 1 => zq_stp i (zq_fv t r i) (zq_fw t r i).1 (zq_fw t r i).2
theorem zq_36 {post : Int32 → St2 → Prop} {J : Int32 → Int32 → Int32 → Int32 → Int32 → Int32 → (Nat → Int32) → (Nat → Int32) → (Nat → Int32) → (Nat → Int32) → (Nat → Int32) → (Nat → Int32) → (Nat → Int32) → (Nat → Int32) → (Nat → Int32) → (Nat → Int32) → (Nat → Int32) → (Nat → Int32) → (Nat → Int32) → (Nat → Int32) → (Nat → Int32) → (Nat → Int32) → (Nat → Int32) → Prop} {c0 c1 cc : Int32} {a1 a2 a3 a4 a5 a6 a7 a8 a9 a10 a11 a12 a13 a14 a15 a16 a17 : Nat → Int32} {x1 v s l : Int32} {i : Nat} (H : J (zq_stp i v s l).1 (zq_stp i v s l).2 (nI (i + 1)) c0 c1 cc a1 a2 a3 a4 a5 a6 a7 a8 a9 a10 a11 a12 a13 a14 a15 a16 a17) : wX_fewest_36 post J x1 s l (nI i) v c0 c1 cc a1 a2 a3 a4 a5 a6 a7 a8 a9 a10 a11 a12 a13 a14 a15 a16 a17 := by
  refine br_c (fun z => br_c (fun y => br_c (fun x => nm_r (nI_1 i) ?_) (fun x => nm_e (nm_r (nI_1 i) ?_))) (fun y => br_c (fun x => nm_r (nI_1 i) ?_) (fun x => nm_e (nm_r (nI_1 i) ?_)))) (fun z => nm_r (nI_1 i) ?_)
  · unfold zq_stp at H; rw [if_pos z, if_pos y, if_pos x] at H; exact H
  · unfold zq_stp at H; rw [if_pos z, if_pos y, if_neg x] at H; exact H
  · unfold zq_stp at H; rw [if_pos z, if_neg y, if_pos x] at H; exact H
  · unfold zq_stp at H; rw [if_pos z, if_neg y, if_neg x] at H; exact H
  · unfold zq_stp at H; rw [if_neg z] at H; exact H
theorem zq_FW {t B : Nat} (hm : (t, B) ∈ zq_TL) {r : Nat} (hr : r = 15 ∨ r = 16) : (if (zq_fw t r 5).1 = 0 then 31 else (zq_fw t r 5).1) = nI (zq_win t r) := by
  have f : zq_all (fun t _ => ((if (zq_fw t 15 5).1 = 0 then 31 else (zq_fw t 15 5).1) == nI (zq_win t 15)) && ((if (zq_fw t 16 5).1 = 0 then 31 else (zq_fw t 16 5).1) == nI (zq_win t 16))) = true := by decide +kernel
  have g := zq_allI f hm
  rw [Bool.and_eq_true] at g
  rcases hr with rfl | rfl
  · exact eq_of_beq g.1
  · exact eq_of_beq g.2
theorem zq_few9 {post : Int32 → St2 → Prop} {t B r : Nat} (hm : (t, B) ∈ zq_TL) (hr : r = 15 ∨ r = 16) (H : ∀ (cc : Int32) (a6 a7 a8 a9 a10 a11 a12 a13 a14 a15 a16 a17 : Nat → Int32), post (nI (zq_win t r)) (nI (zq_cn t), 1, cc, (zq_T1 t), (zq_T2 t), (zq_T3 B), (zq_T4 B), (zq_T5 B), a6, a7, a8, a9, a10, a11, a12, a13, a14, a15, a16, a17)) : ∀ m i, m + i = 5 → ∀ (cc : Int32) (a6 a7 a8 a9 a10 a11 a12 a13 a14 a15 a16 a17 : Nat → Int32), wX_fewest_9 post (nI r) (m + 1) (zq_fw t r i).1 (zq_fw t r i).2 (nI i) (nI (zq_cn t)) 1 cc (zq_T1 t) (zq_T2 t) (zq_T3 B) (zq_T4 B) (zq_T5 B) a6 a7 a8 a9 a10 a11 a12 a13 a14 a15 a16 a17 := by
  intro m
  induction m with
  | zero =>
    intro i hi cc a6 a7 a8 a9 a10 a11 a12 a13 a14 a15 a16 a17
    obtain rfl : i = 5 := by omega
    have q := zq_FW hm hr
    refine pk_le 5 5 (fun _ => br_c (fun z => ?_) (fun z => ?_)) (fun z => absurd z (by omega))
    · rw [if_pos z] at q
      rw [q]
      exact H cc a6 a7 a8 a9 a10 a11 a12 a13 a14 a15 a16 a17
    · rw [if_neg z] at q
      rw [q]
      exact H cc a6 a7 a8 a9 a10 a11 a12 a13 a14 a15 a16 a17
  | succ m ih =>
    intro i hi cc a6 a7 a8 a9 a10 a11 a12 a13 a14 a15 a16 a17
    refine pk_le 5 i (fun z => absurd z (by omega)) (fun _ => ?_)
    rcases hr with rfl | rfl
    · exact br_t rfl (zq_swapsOf hm (by omega) (fun cc a6 a7 a8 a9 a10 a11 a12 a13 a14 a15 a16 a17 => zq_36 (ih (i + 1) (by omega) cc a6 a7 a8 a9 a10 a11 a12 a13 a14 a15 a16 a17)))
    · exact br_f (by decide) (zq_removals hm (by omega) (zq_36 (ih (i + 1) (by omega) cc a6 a7 a8 a9 a10 a11 a12 a13 a14 a15 a16 a17)))
theorem zq_fewest {post : Int32 → St2 → Prop} {cc : Int32} {a6 a7 a8 a9 a10 a11 a12 a13 a14 a15 a16 a17 : Nat → Int32} {t B r : Nat} (hm : (t, B) ∈ zq_TL) (hr : r = 15 ∨ r = 16) (H : ∀ (cc : Int32) (a6 a7 a8 a9 a10 a11 a12 a13 a14 a15 a16 a17 : Nat → Int32), post (nI (zq_win t r)) (nI (zq_cn t), 1, cc, (zq_T1 t), (zq_T2 t), (zq_T3 B), (zq_T4 B), (zq_T5 B), a6, a7, a8, a9, a10, a11, a12, a13, a14, a15, a16, a17)) : wpX_fewest post (nI (zq_cn t), 1, cc, (zq_T1 t), (zq_T2 t), (zq_T3 B), (zq_T4 B), (zq_T5 B), a6, a7, a8, a9, a10, a11, a12, a13, a14, a15, a16, a17) (nI r) :=
  ⟨6, zq_few9 hm hr H 5 0 (by omega) cc a6 a7 a8 a9 a10 a11 a12 a13 a14 a15 a16 a17⟩
end
section
-- part 13: winnersBy, the public methods, gain
def zq_st (c1 : Int32) (D B : Nat) : Prop := D < 2 ^ 25 ∧ (c1 = 0 ∨ (c1 = 1 ∧ D = B))
theorem zq_st1 {t B : Nat} (hm : (t, B) ∈ zq_TL) : zq_st 1 B B := ⟨(zq_lt hm).2, Or.inr ⟨rfl, rfl⟩⟩
theorem zq_winnersBy {post : Int32 → St2 → Prop} {c1 : Int32} {cc : Int32} {a6 a7 a8 a9 a10 a11 a12 a13 a14 a15 a16 a17 : Nat → Int32} {t B D r : Nat} (hm : (t, B) ∈ zq_TL) (hD : zq_st c1 D B) (hr : r ≤ 16) (H : ∀ (cc : Int32) (a6 a7 a8 a9 a10 a11 a12 a13 a14 a15 a16 a17 : Nat → Int32), post (nI (zq_win t r)) (nI (zq_cn t), 1, cc, (zq_T1 t), (zq_T2 t), (zq_T3 B), (zq_T4 B), (zq_T5 B), a6, a7, a8, a9, a10, a11, a12, a13, a14, a15, a16, a17)) : wpX_winnersBy post (nI (zq_cn t), c1, cc, (zq_T1 t), (zq_T2 t), zq_T3 D, zq_T4 D, zq_T5 D, a6, a7, a8, a9, a10, a11, a12, a13, a14, a15, a16, a17) (nI r) := by
  refine zq_countAll hm hD.1 hD.2 (pk_le 6 r (fun z6 => pk_le 9 r (fun z9 => pk_eq r 9 (fun e => ?_) (fun n9 => pk_eq r 10 (fun e => ?_) (fun n10 => pk_eq r 11 (fun e => ?_) (fun n11 => pk_eq r 12 (fun e => ?_) (fun n12 => pk_eq r 13 (fun e => ?_) (fun n13 => pk_eq r 14 (fun e => ?_) (fun n14 => ?_))))))) (fun z9 => zq_byElim hm (by omega) H)) (fun z6 => zq_greatest hm (by omega) H))
  · subst e
    exact zq_r9 hm H
  · subst e
    exact zq_r10 hm H
  · subst e
    exact zq_r11 hm (H cc a6 a7 a8 a9 a10 a11 a12 a13 a14 a15 a16 a17)
  · subst e
    exact zq_r12 hm H
  · subst e
    exact zq_r13 hm (H cc a6 a7 a8 a9 a10 a11 a12 a13 a14 a15 a16 a17)
  · subst e
    exact zq_r14 hm (H cc a6 a7 a8 a9 a10 a11 a12 a13 a14 a15 a16 a17)
  · exact zq_fewest hm (by omega) H
theorem zq_winnersBy1 {post : Int32 → St2 → Prop} {c1 : Int32} {cc : Int32} {a6 a7 a8 a9 a10 a11 a12 a13 a14 a15 a16 a17 : Nat → Int32} {t B D r : Nat} (hm : (t, B) ∈ zq_TL) (ht : t < 3125) (hD : zq_st c1 D B) (hr : r ≤ 16) (H : ∀ (cc : Int32) (a6 a7 a8 a9 a10 a11 a12 a13 a14 a15 a16 a17 : Nat → Int32), post (nI (zq_win t r)) (nI 1, 1, cc, (zq_T1 t), (zq_T2 t), (zq_T3 B), (zq_T4 B), (zq_T5 B), a6, a7, a8, a9, a10, a11, a12, a13, a14, a15, a16, a17)) : wpX_winnersBy post (nI 1, c1, cc, (zq_T1 t), (zq_T2 t), zq_T3 D, zq_T4 D, zq_T5 D, a6, a7, a8, a9, a10, a11, a12, a13, a14, a15, a16, a17) (nI r) := by
  have q := @zq_winnersBy post c1 cc a6 a7 a8 a9 a10 a11 a12 a13 a14 a15 a16 a17 t B D r hm hD hr
  rw [zq_cn1 ht] at q
  exact q H
theorem zq_winK {post : Int32 → St2 → Prop} {c1 : Int32} {cc : Int32} {a6 a7 a8 a9 a10 a11 a12 a13 a14 a15 a16 a17 : Nat → Int32} {t B D r : Nat} (hm : (t, B) ∈ zq_TL) (hD : zq_st c1 D B) (hr : r ≤ 16) (H : ∀ (cc : Int32) (a6 a7 a8 a9 a10 a11 a12 a13 a14 a15 a16 a17 : Nat → Int32), post (nI (zq_win t r)) (nI (zq_cn t), 1, cc, (zq_T1 t), (zq_T2 t), (zq_T3 B), (zq_T4 B), (zq_T5 B), a6, a7, a8, a9, a10, a11, a12, a13, a14, a15, a16, a17)) : wpX_winners post (nI (zq_cn t), c1, cc, (zq_T1 t), (zq_T2 t), zq_T3 D, zq_T4 D, zq_T5 D, a6, a7, a8, a9, a10, a11, a12, a13, a14, a15, a16, a17) (nI r) :=
  br_f (nI_pos (by omega)) (pk_le r 16 (fun _ => zq_winnersBy hm hD hr H) (fun z => absurd z (by omega)))
theorem zq_winU {post : Int32 → St2 → Prop} {c0 c1 cc : Int32} {a1 a2 a3 a4 a5 a6 a7 a8 a9 a10 a11 a12 a13 a14 a15 a16 a17 : Nat → Int32} {x : Int32} (hx : x < 0 ∨ ¬ x ≤ 16) (H : post (-1000) (c0, c1, cc, a1, a2, a3, a4, a5, a6, a7, a8, a9, a10, a11, a12, a13, a14, a15, a16, a17)) : wpX_winners post (c0, c1, cc, a1, a2, a3, a4, a5, a6, a7, a8, a9, a10, a11, a12, a13, a14, a15, a16, a17) x := by
  by_cases h : x < 0
  · exact br_t h H
  · exact br_f h (br_f (hx.resolve_left h) H)
theorem zq_cand {post : Int32 → Prop} {c0 c1 cc : Int32} {a1 a2 a3 a4 a5 a6 a7 a8 a9 a10 a11 a12 a13 a14 a15 a16 a17 : Nat → Int32} {c : Nat} (hc : c < 5) (H : post 1) : wpX_isCandidate post (c0, c1, cc, a1, a2, a3, a4, a5, a6, a7, a8, a9, a10, a11, a12, a13, a14, a15, a16, a17) (nI c) :=
  br_f (nI_pos (by omega)) (pk_le 5 c (fun z => absurd z (by omega)) (fun _ => H))
theorem zq_candU {post : Int32 → Prop} {c0 c1 cc : Int32} {a1 a2 a3 a4 a5 a6 a7 a8 a9 a10 a11 a12 a13 a14 a15 a16 a17 : Nat → Int32} {x : Int32} (hx : x < 0 ∨ 5 ≤ x) (H : post 0) : wpX_isCandidate post (c0, c1, cc, a1, a2, a3, a4, a5, a6, a7, a8, a9, a10, a11, a12, a13, a14, a15, a16, a17) x := by
  by_cases h : x < 0
  · exact br_t h H
  · exact br_f h (br_t (hx.resolve_left h) H)
theorem zq_scoreK {post : Int32 → St2 → Prop} {c1 : Int32} {cc : Int32} {a6 a7 a8 a9 a10 a11 a12 a13 a14 a15 a16 a17 : Nat → Int32} {t B D r c : Nat} (hm : (t, B) ∈ zq_TL) (hD : zq_st c1 D B) (hr : r ≤ 5) (hc : c < 5) (H : ∀ (cc : Int32) (a6 a7 a8 a9 a10 a11 a12 a13 a14 a15 a16 a17 : Nat → Int32), post (zq_sc t r c) (nI (zq_cn t), 1, cc, (zq_T1 t), (zq_T2 t), (zq_T3 B), (zq_T4 B), (zq_T5 B), a6, a7, a8, a9, a10, a11, a12, a13, a14, a15, a16, a17)) : wpX_score post (nI (zq_cn t), c1, cc, (zq_T1 t), (zq_T2 t), zq_T3 D, zq_T4 D, zq_T5 D, a6, a7, a8, a9, a10, a11, a12, a13, a14, a15, a16, a17) (nI r) (nI c) := by
  refine br_f (nI_pos (by omega)) (pk_lt 5 r (fun z => absurd z (by omega)) (fun _ => zq_cand hc (br_f (by decide) (zq_countAll hm hD.1 hD.2 (zq_findScores hm hr (fun s hs => ⟨pk_in c 5 hc, ?_⟩))))))
  rw [nI_clamp (show c < 2 ^ 31 by omega), hs c hc]
  exact H _ _ _ _ _ _ _ _ _ _ _ _ _
theorem zq_scoreU {post : Int32 → St2 → Prop} {c0 c1 cc : Int32} {a1 a2 a3 a4 a5 a6 a7 a8 a9 a10 a11 a12 a13 a14 a15 a16 a17 : Nat → Int32} {x y : Int32} (hx : x < 0 ∨ 5 < x ∨ y < 0 ∨ 5 ≤ y) (H : post (-1000) (c0, c1, cc, a1, a2, a3, a4, a5, a6, a7, a8, a9, a10, a11, a12, a13, a14, a15, a16, a17)) : wpX_score post (c0, c1, cc, a1, a2, a3, a4, a5, a6, a7, a8, a9, a10, a11, a12, a13, a14, a15, a16, a17) x y := by
  by_cases h : x < 0
  · exact br_t h H
  · by_cases g : 5 < x
    · exact br_f h (br_t g H)
    · exact br_f h (br_f g (zq_candU ((hx.resolve_left h).resolve_left g) (br_t rfl H)))
theorem zq_swapsK {post : Int32 → St2 → Prop} {c1 : Int32} {cc : Int32} {a6 a7 a8 a9 a10 a11 a12 a13 a14 a15 a16 a17 : Nat → Int32} {t B D c : Nat} (hm : (t, B) ∈ zq_TL) (hD : zq_st c1 D B) (hc : c < 5) (H : ∀ (cc : Int32) (a6 a7 a8 a9 a10 a11 a12 a13 a14 a15 a16 a17 : Nat → Int32), post (zq_sw t c) (nI (zq_cn t), 1, cc, (zq_T1 t), (zq_T2 t), (zq_T3 B), (zq_T4 B), (zq_T5 B), a6, a7, a8, a9, a10, a11, a12, a13, a14, a15, a16, a17)) : wpX_swaps post (nI (zq_cn t), c1, cc, (zq_T1 t), (zq_T2 t), zq_T3 D, zq_T4 D, zq_T5 D, a6, a7, a8, a9, a10, a11, a12, a13, a14, a15, a16, a17) (nI c) := by
  unfold wpX_swaps
  dsimp only
  exact zq_cand hc (br_f (by decide) (zq_countAll hm hD.1 hD.2 (zq_swapsOf hm hc H)))
theorem zq_swapsU {post : Int32 → St2 → Prop} {c0 c1 cc : Int32} {a1 a2 a3 a4 a5 a6 a7 a8 a9 a10 a11 a12 a13 a14 a15 a16 a17 : Nat → Int32} {y : Int32} (hy : y < 0 ∨ 5 ≤ y) (H : post (-1000) (c0, c1, cc, a1, a2, a3, a4, a5, a6, a7, a8, a9, a10, a11, a12, a13, a14, a15, a16, a17)) : wpX_swaps post (c0, c1, cc, a1, a2, a3, a4, a5, a6, a7, a8, a9, a10, a11, a12, a13, a14, a15, a16, a17) y := by
  unfold wpX_swaps
  dsimp only
  exact zq_candU hy (br_t rfl H)
theorem zq_remK {post : Int32 → St2 → Prop} {c1 : Int32} {cc : Int32} {a6 a7 a8 a9 a10 a11 a12 a13 a14 a15 a16 a17 : Nat → Int32} {t B D c : Nat} (hm : (t, B) ∈ zq_TL) (hD : zq_st c1 D B) (hc : c < 5) (H : post (zq_rm t c) (nI (zq_cn t), 1, cc, (zq_T1 t), (zq_T2 t), (zq_T3 B), (zq_T4 B), (zq_T5 B), a6, a7, a8, a9, a10, a11, a12, a13, a14, a15, a16, a17)) : wpX_removals post (nI (zq_cn t), c1, cc, (zq_T1 t), (zq_T2 t), zq_T3 D, zq_T4 D, zq_T5 D, a6, a7, a8, a9, a10, a11, a12, a13, a14, a15, a16, a17) (nI c) := by
  unfold wpX_removals
  dsimp only
  exact zq_cand hc (br_f (by decide) (zq_countAll hm hD.1 hD.2 (zq_removals hm hc H)))
theorem zq_remU {post : Int32 → St2 → Prop} {c0 c1 cc : Int32} {a1 a2 a3 a4 a5 a6 a7 a8 a9 a10 a11 a12 a13 a14 a15 a16 a17 : Nat → Int32} {y : Int32} (hy : y < 0 ∨ 5 ≤ y) (H : post (-1000) (c0, c1, cc, a1, a2, a3, a4, a5, a6, a7, a8, a9, a10, a11, a12, a13, a14, a15, a16, a17)) : wpX_removals post (c0, c1, cc, a1, a2, a3, a4, a5, a6, a7, a8, a9, a10, a11, a12, a13, a14, a15, a16, a17) y := by
  unfold wpX_removals
  dsimp only
  exact zq_candU hy (br_t rfl H)
/-! orders -/
def zq_seen (m : Nat) : Nat := 2 ^ (m % 5) ||| 2 ^ (m / 5 % 5) ||| 2 ^ (m / 25 % 5) ||| 2 ^ (m / 125 % 5) ||| 2 ^ (m / 625 % 5)
theorem zq_O1 {m : Nat} (h : m < 3125) : zm_isOrder (fun y => y == if zq_seen m = 31 then 1 else 0) (nI m) = true := by
  have f : zq_rg 3125 (fun m => zm_isOrder (fun y => y == if zq_seen m = 31 then 1 else 0) (nI m)) = true := by decide +kernel
  exact zq_rgI f h
theorem zq_O2 {m : Nat} (h : m < 3125) (hs : zq_seen m = 31) : ∃ B, (m, B) ∈ zq_TL := by
  have f : zq_rg 3125 (fun m => if zq_seen m = 31 then zq_TL.any (fun q => q.1 == m) else true) = true := by decide +kernel
  have g := zq_rgI f h
  rw [if_pos hs, List.any_eq_true] at g
  obtain ⟨q, q1, q2⟩ := g
  have e : q.1 = m := eq_of_beq q2
  exact ⟨q.2, by rw [← e]; exact q1⟩
theorem zq_O3 {t B : Nat} (hm : (t, B) ∈ zq_TL) (ht : t < 3125) : zq_seen t = 31 := by
  have f : zq_all (fun t _ => decide (3125 ≤ t) || zq_seen t == 31) = true := by decide +kernel
  have g := zq_allI f hm
  rw [Bool.or_eq_true, decide_eq_true_iff] at g
  rcases g with g | g
  · omega
  · exact eq_of_beq g
theorem zq_isOrd {post : Int32 → Prop} {c0 c1 cc : Int32} {a1 a2 a3 a4 a5 a6 a7 a8 a9 a10 a11 a12 a13 a14 a15 a16 a17 : Nat → Int32} {m : Nat} (h : m < 3125) (H1 : zq_seen m = 31 → post 1) (H0 : ¬ zq_seen m = 31 → post 0) : wpX_isOrder post (c0, c1, cc, a1, a2, a3, a4, a5, a6, a7, a8, a9, a10, a11, a12, a13, a14, a15, a16, a17) (nI m) := by
  have q := zq_O1 h
  by_cases e : zq_seen m = 31
  · rw [if_pos e] at q
    exact zq_s_isOrder q (zq_eqk (H1 e))
  · rw [if_neg e] at q
    exact zq_s_isOrder q (zq_eqk (H0 e))
/-! bestPlace, gain -/
theorem zq_bestNN {post : Int32 → Prop} {c0 c1 cc : Int32} {a1 a2 a3 a4 a5 a6 a7 a8 a9 a10 a11 a12 a13 a14 a15 a16 a17 : Nat → Int32} {x0 x1 : Int32} (H : ∀ y, 0 ≤ y → post y) : wpX_bestPlace post (c0, c1, cc, a1, a2, a3, a4, a5, a6, a7, a8, a9, a10, a11, a12, a13, a14, a15, a16, a17) x0 x1 := by
  refine ⟨6, ?_⟩
  rw [show (4 : Int32) = nI 5 + (-1) from by decide]
  refine pk_loopD (σ := Int32 × Int32) (fun n i s => wX_bestPlace_8 post x1 c0 c1 cc a1 a2 a3 a4 a5 a6 a7 a8 a9 a10 a11 a12 a13 a14 a15 a16 a17 n s.1 s.2 (nI i + (-1))) (fun i s => i ≤ 5 ∧ 0 ≤ s.1) ?_ ?_ 5 (5, x0) ⟨by omega, by show (0 : Int32) ≤ 5; decide⟩
  · intro n s h
    exact br_t (by decide) (H s.1 h.2)
  · intro n i s h hw
    show wX_bestPlace_8 post x1 c0 c1 cc a1 a2 a3 a4 a5 a6 a7 a8 a9 a10 a11 a12 a13 a14 a15 a16 a17 (n + 1) s.1 s.2 (nI (i + 1) + (-1))
    rw [pk_m1]
    have hi := h.1
    refine br_f (nI_pos (by omega)) ⟨by decide, br_c (fun z => br_t rfl ⟨by decide, nm_e (nm_e (hw (s.1, s.2 / 5) ⟨by omega, h.2⟩))⟩) (fun z => br_f (by decide) ⟨by decide, nm_e (nm_e (hw (nI i, s.2 / 5) ⟨by omega, ?_⟩))⟩)⟩
    exact nI_pos' (by omega)
theorem zq_FB {t B : Nat} (hm : (t, B) ∈ zq_TL) (ht : t < 3125) {r : Nat} (hr : r ≤ 14) : zm_bestPlace (fun y => y == 0) (nI t) (nI (zq_win t r)) = true := by
  have f : zq_all (fun t _ => decide (3125 ≤ t) || zq_rg 15 (fun r => zm_bestPlace (fun y => y == 0) (nI t) (nI (zq_win t r)))) = true := by decide +kernel
  have g := zq_allI f hm
  rw [Bool.or_eq_true, decide_eq_true_iff] at g
  rcases g with g | g
  · omega
  · exact zq_rgI g (Nat.lt_succ_of_le hr)
theorem zq_g118 {post : Int32 → St2 → Prop} {c0 c1 cc : Int32} {a3 a4 a5 a6 a7 a8 a9 a10 a11 a12 a13 a14 a15 a16 a17 : Nat → Int32} {t0 t : Nat} {x6 : Int32} (ht : t < 3125) (H : ∀ u, post x6 u) : wX_gain_118 post 0 (nI t) x6 c0 c1 cc (zq_T1 t0) (zq_T2 t0) a3 a4 a5 a6 a7 a8 a9 a10 a11 a12 a13 a14 a15 a16 a17 :=
  zq_put ht (H _)
theorem zq_g57 {post : Int32 → St2 → Prop} {w r : Nat} (hw : w < 3125) (hr : r ≤ 14) (H : ∀ u, post (-1002) u) : ∀ m i, m + i = 3125 → ∀ t B (cc : Int32) (a6 a7 a8 a9 a10 a11 a12 a13 a14 a15 a16 a17 : Nat → Int32), (t, B) ∈ zq_TL → wX_gain_57 post (nI r) 0 (nI w) 0 (m + 1) (-1002) (nI i) (nI 1) 1 cc (zq_T1 t) (zq_T2 t) (zq_T3 B) (zq_T4 B) (zq_T5 B) a6 a7 a8 a9 a10 a11 a12 a13 a14 a15 a16 a17 := by
  intro m
  induction m with
  | zero =>
    intro i hi t B cc a6 a7 a8 a9 a10 a11 a12 a13 a14 a15 a16 a17 hm
    obtain rfl : i = 3125 := by omega
    exact pk_le 3125 3125 (fun _ => zq_g118 hw H) (fun z => absurd z (by omega))
  | succ m ih =>
    intro i hi t B cc a6 a7 a8 a9 a10 a11 a12 a13 a14 a15 a16 a17 hm
    refine pk_le 3125 i (fun z => absurd z (by omega)) (fun _ => br_f (by decide) (zq_isOrd (by omega) (fun e => br_f (by decide) ?_) (fun e => br_t rfl (nm_r (nI_1 i) (ih (i + 1) (by omega) t B cc a6 a7 a8 a9 a10 a11 a12 a13 a14 a15 a16 a17 hm)))))
    obtain ⟨E, hE⟩ := zq_O2 (by omega) e
    have hi' : i < 3125 := by omega
    exact zq_put hi' (zq_winnersBy1 hE hi' ⟨(zq_lt hm).2, Or.inl rfl⟩ (by omega) (fun cc a6 a7 a8 a9 a10 a11 a12 a13 a14 a15 a16 a17 => zq_bestNN (fun y hy => br_t hy (nm_r (nI_1 i) (ih (i + 1) (by omega) i E cc a6 a7 a8 a9 a10 a11 a12 a13 a14 a15 a16 a17 hE)))))
theorem zq_T1z {t : Nat} (ht : t < 3125) : zq_T1 t (0 : Int32).toNatClampNeg = nI t := by
  rw [sb_cl0]
  exact if_pos ⟨rfl, ht⟩
theorem zq_gainK {post : Int32 → St2 → Prop} {c1 : Int32} {cc : Int32} {a6 a7 a8 a9 a10 a11 a12 a13 a14 a15 a16 a17 : Nat → Int32} {t B D r : Nat} (hm : (t, B) ∈ zq_TL) (ht : t < 3125) (hD : zq_st c1 D B) (hr : r ≤ 14) (H : ∀ u, post (-1002) u) : wpX_gain post (nI (zq_cn t), c1, cc, (zq_T1 t), (zq_T2 t), zq_T3 D, zq_T4 D, zq_T5 D, a6, a7, a8, a9, a10, a11, a12, a13, a14, a15, a16, a17) (nI r) 0 := by
  have ec := zq_cn1 ht
  refine br_f (nI_pos (by omega)) (pk_lt 14 r (fun z => absurd z (by omega)) (fun _ => br_f (by decide) (br_t (by rw [ec]; decide) ⟨pk_in 0 9 (by decide), nm_r (zq_T1z ht) (zq_winnersBy hm hD (by omega) (fun cc a6 a7 a8 a9 a10 a11 a12 a13 a14 a15 a16 a17 => zq_s_bestPlace (zq_FB hm ht hr) (zq_eqk ⟨3126, ?_⟩)))⟩)))
  rw [ec]
  exact zq_g57 ht hr H 3125 0 (by omega) t B cc a6 a7 a8 a9 a10 a11 a12 a13 a14 a15 a16 a17 hm
theorem zq_gainU {post : Int32 → St2 → Prop} {c0 c1 cc : Int32} {a1 a2 a3 a4 a5 a6 a7 a8 a9 a10 a11 a12 a13 a14 a15 a16 a17 : Nat → Int32} {x : Int32} (hx : x < 0 ∨ 14 < x ∨ ¬ 0 < c0) (H : post (-1000) (c0, c1, cc, a1, a2, a3, a4, a5, a6, a7, a8, a9, a10, a11, a12, a13, a14, a15, a16, a17)) : wpX_gain post (c0, c1, cc, a1, a2, a3, a4, a5, a6, a7, a8, a9, a10, a11, a12, a13, a14, a15, a16, a17) x 0 := by
  by_cases h : x < 0
  · exact br_t h H
  · by_cases g : 14 < x
    · exact br_f h (br_t g H)
    · exact br_f h (br_f g (br_f (by decide) (br_f ((hx.resolve_left h).resolve_left g) H)))
end
section
-- printed by mir.py
noncomputable def zm_L_place (k_ : Int32 → Bool) (p0 : Int32) (p1 : Int32) : Bool := (if (p0 / 625) = p1 then (k_ 0) else (if ((p0 / 125) - (p0 / 125) / 5 * 5) = p1 then (k_ 1) else (if ((p0 / 25) - (p0 / 25) / 5 * 5) = p1 then (k_ 2) else (if ((p0 / 5) - (p0 / 5) / 5 * 5) = p1 then (k_ 3) else (k_ 4)))))
theorem zq_s_L_place {post : Int32 → Prop} {u : St0} {p0 : Int32} {p1 : Int32} {k_ : Int32 → Bool} (h : zm_L_place k_ p0 p1 = true) (hk : ∀ y, k_ y = true → post y) : wpL_place post u p0 p1 :=
  ⟨by decide, zq_cb_if h (fun h => hk _ h) (fun h => ⟨by decide, ⟨by decide, zq_cb_if h (fun h => hk _ h) (fun h => ⟨by decide, ⟨by decide, zq_cb_if h (fun h => hk _ h) (fun h => ⟨by decide, ⟨by decide, zq_cb_if h (fun h => hk _ h) (fun h => hk _ h)⟩⟩)⟩⟩)⟩⟩)⟩
end
section
-- part 15: the law
def zq_cd (t : Nat) (x2 x6 x7 : Int32) : Prop := (∃ c, c < 5 ∧ x2 = nI c ∧ x6 = 1 ∧ x7 = if t < 3125 then nI (zq_pl t c) else 0) ∨ ((x2 < 0 ∨ 5 ≤ x2) ∧ x6 = 0)
def zq_ru (t : Nat) (x1 x5 x8 : Int32) : Prop := (∃ r, r ≤ 16 ∧ x1 = nI r ∧ x5 = 1 ∧ x8 = nI (zq_win t r)) ∨ ((x1 < 0 ∨ ¬ x1 ≤ 16) ∧ x5 = 0)
def zq_sS (t : Nat) (x1 x2 x9 : Int32) : Prop := ∀ r c, r ≤ 5 → c < 5 → x1 = nI r → x2 = nI c → x9 = zq_sc t r c
theorem zq_l415 {post : Int32 → St0 → Prop} {mc ms kc ks : Nat} {c1 : Int32} {cc : Int32} {a6 a7 a8 a9 a10 a11 a12 a13 a14 a15 a16 a17 : Nat → Int32} {t B D : Nat} {x1 z0 z1 : Int32} (hP : post 1 ()) (hm : (t, B) ∈ zq_TL) (hD : zq_st c1 D B) (hz : z1 = z0) : wL_lawOf_415 post mc ms x1 (nI (zq_cn t)) z0 z1 kc ks (nI (zq_cn t)) c1 cc (zq_T1 t) (zq_T2 t) (zq_T3 D) (zq_T4 D) (zq_T5 D) a6 a7 a8 a9 a10 a11 a12 a13 a14 a15 a16 a17 := by
  refine br_t hz ?_
  by_cases h : x1 < 0
  · exact zq_gainU (Or.inl h) (br_t h (br_t rfl hP))
  · by_cases g : 14 < x1
    · exact zq_gainU (Or.inr (Or.inl g)) (br_f h (br_t g (br_t rfl hP)))
    · obtain ⟨r, hr, rfl⟩ := nI_of2 (M := 14) (n := 14) rfl h (Int32.not_lt.mp g)
      by_cases ht : t < 3125
      · exact zq_gainK hm ht hD hr (fun ⟨_, _, _, _, _, _, _, _, _, _, _, _, _, _, _, _, _, _, _, _⟩ => br_f h (br_f g (br_f (by rw [zq_cn1 ht]; decide) (br_t rfl hP))))
      · exact zq_gainU (Or.inr (Or.inr (by rw [zq_cn0 ht]; decide))) (br_f h (br_f g (br_t (by rw [zq_cn0 ht]; rfl) (br_t rfl hP))))
theorem zq_l376 {post : Int32 → St0 → Prop} {mc ms kc ks : Nat} {c1 : Int32} {cc : Int32} {a6 a7 a8 a9 a10 a11 a12 a13 a14 a15 a16 a17 : Nat → Int32} {t B D : Nat} {x1 x2 x6 x7 z0 z1 : Int32} (hP : post 1 ()) (hm : (t, B) ∈ zq_TL) (hD : zq_st c1 D B) (hC : zq_cd t x2 x6 x7) (hz : z1 = z0) : wL_lawOf_376 post mc ms x1 x2 (nI (zq_cn t)) x6 x7 z0 z1 kc ks (nI (zq_cn t)) c1 cc (zq_T1 t) (zq_T2 t) (zq_T3 D) (zq_T4 D) (zq_T5 D) a6 a7 a8 a9 a10 a11 a12 a13 a14 a15 a16 a17 := by
  refine br_t hz ?_
  rcases hC with ⟨c, hc, rfl, rfl, rfl⟩ | ⟨hx, rfl⟩
  · refine zq_remK hm hD hc (br_f (by decide) ?_)
    by_cases ht : t < 3125
    · refine br_f (by rw [zq_cn1 ht]; decide) ?_
      rw [if_pos ht]
      have p1 := (zq_SF hm ht hc).1
      refine pk_eq (zq_pl t c) 0 (fun e => ?_) (fun e => ?_)
      · exact zq_l415 hP hm (zq_st1 hm) (if_pos ⟨ht, e⟩)
      · exact zq_l415 hP hm (zq_st1 hm) (if_neg (fun z => e z.2))
    · exact br_t (by rw [zq_cn0 ht]; rfl) (zq_l415 hP hm (zq_st1 hm) (if_neg (fun z => ht z.1)))
  · exact zq_remU hx (br_t rfl (zq_l415 hP hm hD rfl))
theorem zq_l341 {post : Int32 → St0 → Prop} {mc ms kc ks : Nat} {c1 : Int32} {cc : Int32} {a6 a7 a8 a9 a10 a11 a12 a13 a14 a15 a16 a17 : Nat → Int32} {t B D : Nat} {x1 x2 x6 x7 z0 z1 : Int32} (hP : post 1 ()) (hm : (t, B) ∈ zq_TL) (hD : zq_st c1 D B) (hC : zq_cd t x2 x6 x7) (hz : z1 = z0) : wL_lawOf_341 post mc ms x1 x2 (nI (zq_cn t)) x6 x7 z0 z1 kc ks (nI (zq_cn t)) c1 cc (zq_T1 t) (zq_T2 t) (zq_T3 D) (zq_T4 D) (zq_T5 D) a6 a7 a8 a9 a10 a11 a12 a13 a14 a15 a16 a17 := by
  refine br_t hz ?_
  have hC' := hC
  rcases hC with ⟨c, hc, rfl, rfl, rfl⟩ | ⟨hx, rfl⟩
  · refine zq_swapsK hm hD hc (fun cc a6 a7 a8 a9 a10 a11 a12 a13 a14 a15 a16 a17 => br_f (by decide) ?_)
    by_cases ht : t < 3125
    · refine br_f (by rw [zq_cn1 ht]; decide) (zq_l376 hP hm (zq_st1 hm) hC' ?_)
      unfold zq_sw
      rw [if_pos ht, if_pos ht]
    · exact br_t (by rw [zq_cn0 ht]; rfl) (zq_l376 hP hm (zq_st1 hm) hC' (if_neg ht))
  · exact zq_swapsU hx (br_t rfl (zq_l376 hP hm hD hC' rfl))
theorem zq_l307 {post : Int32 → St0 → Prop} {mc ms kc ks : Nat} {c1 : Int32} {cc : Int32} {a6 a7 a8 a9 a10 a11 a12 a13 a14 a15 a16 a17 : Nat → Int32} {t B D : Nat} {x1 x2 x6 x7 x9 z0 z1 : Int32} (hP : post 1 ()) (hm : (t, B) ∈ zq_TL) (hD : zq_st c1 D B) (hC : zq_cd t x2 x6 x7) (hS : zq_sS t x1 x2 x9) (hz : z1 = z0) : wL_lawOf_307 post mc ms x1 x2 (nI (zq_cn t)) x6 x7 x9 z0 z1 kc ks (nI (zq_cn t)) c1 cc (zq_T1 t) (zq_T2 t) (zq_T3 D) (zq_T4 D) (zq_T5 D) a6 a7 a8 a9 a10 a11 a12 a13 a14 a15 a16 a17 := by
  refine br_t hz ?_
  by_cases h : x1 < 0
  · exact zq_scoreU (Or.inl h) (br_t h (zq_l341 hP hm hD hC rfl))
  · by_cases g : 5 < x1
    · exact zq_scoreU (Or.inr (Or.inl g)) (br_f h (br_t g (zq_l341 hP hm hD hC rfl)))
    · obtain ⟨r, hr, rfl⟩ := nI_of2 (M := 5) (n := 5) rfl h (Int32.not_lt.mp g)
      have hC' := hC
      rcases hC with ⟨c, hc, rfl, rfl, rfl⟩ | ⟨hx, rfl⟩
      · exact zq_scoreK hm hD hr hc (fun cc a6 a7 a8 a9 a10 a11 a12 a13 a14 a15 a16 a17 => br_f h (br_f g (br_f (by decide) (zq_l341 hP hm (zq_st1 hm) hC' (hS r c hr hc rfl rfl).symm))))
      · exact zq_scoreU (Or.inr (Or.inr hx)) (br_f h (br_f g (br_t rfl (zq_l341 hP hm hD hC' rfl))))
theorem zq_l283 {post : Int32 → St0 → Prop} {mc ms kc ks : Nat} {c1 : Int32} {cc : Int32} {a6 a7 a8 a9 a10 a11 a12 a13 a14 a15 a16 a17 : Nat → Int32} {t B D : Nat} {x1 x2 x5 x6 x7 x8 x9 z0 z1 : Int32} (hP : post 1 ()) (hm : (t, B) ∈ zq_TL) (hD : zq_st c1 D B) (hR : zq_ru t x1 x5 x8) (hC : zq_cd t x2 x6 x7) (hS : zq_sS t x1 x2 x9) (hz : z1 = z0) : wL_lawOf_283 post mc ms x1 x2 (nI (zq_cn t)) x5 x6 x7 x8 x9 z0 z1 kc ks (nI (zq_cn t)) c1 cc (zq_T1 t) (zq_T2 t) (zq_T3 D) (zq_T4 D) (zq_T5 D) a6 a7 a8 a9 a10 a11 a12 a13 a14 a15 a16 a17 := by
  refine br_t hz ?_
  rcases hR with ⟨r, hr, rfl, rfl, rfl⟩ | ⟨hx, rfl⟩
  · exact zq_winK hm hD hr (fun cc a6 a7 a8 a9 a10 a11 a12 a13 a14 a15 a16 a17 => br_f (by decide) (zq_l307 hP hm (zq_st1 hm) hC hS rfl))
  · exact zq_winU hx (br_t rfl (zq_l307 hP hm hD hC hS rfl))
/-! the first call -/
def zq_bad (x : Int32) : Prop := x < 0 ∨ ¬ x ≤ 3124 ∨ ∃ m, m < 3125 ∧ x = nI m ∧ ¬ zq_seen m = 31
theorem zq_isOrdB {post : Int32 → Prop} {c0 c1 cc : Int32} {a1 a2 a3 a4 a5 a6 a7 a8 a9 a10 a11 a12 a13 a14 a15 a16 a17 : Nat → Int32} {x : Int32} (hx : zq_bad x) (H : post 0) : wpX_isOrder post (c0, c1, cc, a1, a2, a3, a4, a5, a6, a7, a8, a9, a10, a11, a12, a13, a14, a15, a16, a17) x := by
  rcases hx with h | h | ⟨m, h1, rfl, h2⟩
  · exact br_t h H
  · by_cases g : x < 0
    · exact br_t g H
    · exact br_f g (br_f h H)
  · exact zq_isOrd h1 (fun z => absurd z h2) (fun _ => H)
theorem zq_z1 : (fun _ => (0 : Int32)) = zq_T1 3125 := funext (fun j => (if_neg (fun z => absurd z.2 (by decide))).symm)
theorem zq_z2 : (fun _ => (0 : Int32)) = zq_T2 3125 := funext (fun j => (if_neg (fun z => absurd z.2 (by decide))).symm)
theorem zq_z3 : (fun _ => (0 : Int32)) = zq_T3 0 := zq_T30.symm
theorem zq_z4 : (fun _ => (0 : Int32)) = zq_T4 0 := by
  funext j
  unfold zq_T4
  by_cases h : j < 25
  · rw [if_pos h]
    unfold zq_b
    rw [Nat.zero_shiftRight, Nat.zero_shiftRight]
    decide
  · rw [if_neg h]
theorem zq_z5 : (fun _ => (0 : Int32)) = zq_T5 0 := by
  funext j
  unfold zq_T5
  by_cases h : j < 5
  · rw [if_pos h]
    unfold zq_row
    rw [Nat.zero_shiftRight]
    rfl
  · rw [if_neg h]
theorem zq_ballotG {post : Int32 → St2 → Prop} {f1 f2 : Nat → Int32} {a6 a7 a8 a9 a10 a11 a12 a13 a14 a15 a16 a17 : Nat → Int32} {a3 a4 a5 : Nat → Int32} {t B : Nat} (e1 : f1 = zq_T1 3125) (e2 : f2 = zq_T2 3125) (hm : (t, B) ∈ zq_TL) (ht : t < 3125) (H : post (nI 1) (nI 1, 0, 0, zq_T1 t, zq_T2 t, a3, a4, a5, a6, a7, a8, a9, a10, a11, a12, a13, a14, a15, a16, a17)) : wpX_ballot post (0, 0, 0, f1, f2, a3, a4, a5, a6, a7, a8, a9, a10, a11, a12, a13, a14, a15, a16, a17) (nI t) := by
  subst e1 e2
  exact br_t (by decide) (zq_isOrd ht (fun _ => br_f (by decide) (zq_put ht (nm_r (show (0 : Int32) + 1 = nI 1 from by decide) H))) (fun e => absurd (zq_O3 hm ht) e))
theorem zq_ballotB {post : Int32 → St2 → Prop} {c1 cc : Int32} {a1 a2 a3 a4 a5 a6 a7 a8 a9 a10 a11 a12 a13 a14 a15 a16 a17 : Nat → Int32} {x : Int32} (hx : zq_bad x) (H : post (-1000) (0, c1, cc, a1, a2, a3, a4, a5, a6, a7, a8, a9, a10, a11, a12, a13, a14, a15, a16, a17)) : wpX_ballot post (0, c1, cc, a1, a2, a3, a4, a5, a6, a7, a8, a9, a10, a11, a12, a13, a14, a15, a16, a17) x :=
  br_t (by decide) (zq_isOrdB hx (br_t rfl H))
def zq_G (t : Nat) (x : Int32) : Prop := (t < 3125 ∧ x = nI t) ∨ (t = 3125 ∧ zq_bad x)
theorem zq_l254 {post : Int32 → St0 → Prop} {t B : Nat} {x0 x1 x2 x4 x5 x6 x7 x8 z0 : Int32} (hP : post 1 ()) (hm : (t, B) ∈ zq_TL) (hG : zq_G t x0) (h4 : x4 = nI (zq_cn t)) (hR : zq_ru t x1 x5 x8) (hC : zq_cd t x2 x6 x7) (hS : zq_sS t x1 x2 z0) : wL_lawOf_254 post 666 10640 x0 x1 x2 x4 x5 x6 x7 x8 z0 0 0 := by
  subst h4
  refine ⟨by decide, by decide, 17, 4844, by decide, by decide, ⟨by decide, by decide, by decide, by decide, by decide, by decide, by decide, by decide, by decide, by decide, by decide, by decide, by decide, by decide, by decide, by decide, by decide, by decide, by decide, by decide, by decide, by decide, by decide, by decide, by decide, by decide, by decide, by decide, by decide, by decide, by decide, by decide, by decide, by decide, ?_⟩⟩
  have st : zq_st 0 0 B := ⟨by decide, Or.inl rfl⟩
  rcases hG with ⟨ht, rfl⟩ | ⟨rfl, hx⟩
  · refine zq_ballotG zq_z1 zq_z2 hm ht ?_
    have ec := zq_cn1 ht
    have q := fun (cc : Int32) (a6 a7 a8 a9 a10 a11 a12 a13 a14 a15 a16 a17 : Nat → Int32) => @zq_l283 post 666 10640 (0 + 1 + 17) (0 + 20 + 4844) 0 cc a6 a7 a8 a9 a10 a11 a12 a13 a14 a15 a16 a17 t B 0 x1 x2 x5 x6 x7 x8 z0 1 (nI 1) hP hm st hR hC hS rfl
    rw [ec, ← zq_z3, ← zq_z4, ← zq_z5] at q
    rw [ec]
    exact br_f (by decide) (q _ _ _ _ _ _ _ _ _ _ _ _ _)
  · refine zq_ballotB hx ?_
    have q := fun (cc : Int32) (a6 a7 a8 a9 a10 a11 a12 a13 a14 a15 a16 a17 : Nat → Int32) => @zq_l283 post 666 10640 (0 + 1 + 17) (0 + 20 + 4844) 0 cc a6 a7 a8 a9 a10 a11 a12 a13 a14 a15 a16 a17 3125 B 0 x1 x2 x5 x6 x7 x8 z0 (-1000) (-1000) hP hm st hR hC hS rfl
    rw [← zq_z1, ← zq_z2, ← zq_z3, ← zq_z4, ← zq_z5] at q
    exact br_t (by decide) (q _ _ _ _ _ _ _ _ _ _ _ _ _)
end
section
-- part 16: lawOf and what is owed
theorem zq_l157 {post : Int32 → St0 → Prop} {t B : Nat} {x0 x1 x2 x5 x6 x7 x8 : Int32} (hP : post 1 ()) (hm : (t, B) ∈ zq_TL) (hG : zq_G t x0) (hR : zq_ru t x1 x5 x8) (hC : zq_cd t x2 x6 x7) : wL_lawOf_157 post 666 10640 x0 x1 x2 (nI (zq_cn t)) x5 x6 x7 x8 0 0 := by
  have K : ∀ z0, zq_sS t x1 x2 z0 → wL_lawOf_254 post 666 10640 x0 x1 x2 (nI (zq_cn t)) x5 x6 x7 x8 z0 0 0 := fun z0 h => zq_l254 hP hm hG rfl hR hC h
  by_cases hv : ∃ r c, r ≤ 5 ∧ c < 5 ∧ x1 = nI r ∧ x2 = nI c
  · obtain ⟨r, c, hr, hc, rfl, rfl⟩ := hv
    have K' : ∀ z0, z0 = zq_sc t r c → wL_lawOf_254 post 666 10640 x0 (nI r) (nI c) (nI (zq_cn t)) x5 x6 x7 x8 z0 0 0 := by
      intro z0 h
      refine K z0 (fun r' c' hr' hc' e1 e2 => ?_)
      rw [nI_eq (by omega) (by omega)] at e1 e2
      rw [← e1, ← e2]
      exact h
    by_cases ht : t < 3125
    · have p1 := (zq_SF hm ht hc).1
      have e7 : x7 = nI (zq_pl t c) := by
        rcases hC with ⟨c', hc', e, _, e7⟩ | ⟨h, _⟩
        · rw [nI_eq (by omega) (by omega)] at e
          rw [if_pos ht, ← e] at e7
          exact e7
        · rcases h with h | h
          · exact absurd h (nI_pos (by omega))
          · exact absurd h (nI_ge (b := 5) hc (by decide))
      subst e7
      refine br_f (by rw [zq_cn1 ht]; decide) ?_
      have six : r = 0 ∨ r = 1 ∨ r = 2 ∨ r = 3 ∨ r = 4 ∨ r = 5 := by omega
      rcases six with rfl | rfl | rfl | rfl | rfl | rfl
      · exact br_t rfl (pk_eq (zq_pl t c) 0 (fun e => K' 1 (by simp [zq_sc, ht, e])) (fun e => K' 0 (by simp [zq_sc, ht, e])))
      · exact br_f (by decide) (br_f (by decide) (br_t rfl (pk_eq (zq_pl t c) 4 (fun e => K' (-1) (by simp [zq_sc, ht, e])) (fun e => K' 0 (by simp [zq_sc, ht, e])))))
      · refine br_f (by decide) (br_f (by decide) (br_f (by decide) (br_t rfl (K' _ ?_))))
        rw [show (4 : Int32) = nI 4 from rfl, pk_sub (by omega)]
        simp [zq_sc, ht]
      · refine br_f (by decide) (br_f (by decide) (br_f (by decide) (br_f (by decide) (br_t rfl (K' _ ?_)))))
        rw [show (4 : Int32) = nI 4 from rfl, pk_sub (by omega), show (2 : Int32) = nI 2 from rfl, pk_mul]
        simp [zq_sc, ht]
      · exact br_f (by decide) (br_f (by decide) (br_f (by decide) (br_f (by decide) (br_f (by decide) (pk_eq (zq_pl t c) 0 (fun e => K' 1 (by simp [zq_sc, ht, e])) (fun e => K' (-1) (by simp [zq_sc, ht, e])))))))
      · exact br_f (by decide) (br_t rfl (pk_eq (zq_pl t c) 0 (fun e => K' 1 (by simp [zq_sc, ht, e])) (fun e => K' 0 (by simp [zq_sc, ht, e]))))
    · exact br_t (by rw [zq_cn0 ht]; rfl) (pk_eq r 3 (fun e => K' 4 (by simp [zq_sc, ht, e])) (fun e => K' 0 (by simp [zq_sc, ht, e])))
  · have K' : ∀ z0, wL_lawOf_254 post 666 10640 x0 x1 x2 (nI (zq_cn t)) x5 x6 x7 x8 z0 0 0 := fun z0 => K z0 (fun r c hr hc e1 e2 => absurd ⟨r, c, hr, hc, e1, e2⟩ hv)
    exact br_c (fun _ => br_c (fun _ => K' _) (fun _ => K' _)) (fun _ => br_c (fun _ => br_c (fun _ => K' _) (fun _ => K' _)) (fun _ => br_c (fun _ => br_c (fun _ => K' _) (fun _ => K' _)) (fun _ => br_c (fun _ => br_c (fun _ => K' _) (fun _ => K' _)) (fun _ => br_c (fun _ => K' _) (fun _ => br_c (fun _ => K' _) (fun _ => br_c (fun _ => K' _) (fun _ => K' _)))))))
def zq_rk (x1 x5 : Int32) : Prop := (∃ r, r ≤ 16 ∧ x1 = nI r ∧ x5 = 1) ∨ ((x1 < 0 ∨ ¬ x1 ≤ 16) ∧ x5 = 0)
theorem zq_ruI {t : Nat} {x1 x5 x8 : Int32} (h : zq_rk x1 x5) (h8 : ∀ r, r ≤ 16 → x1 = nI r → x8 = nI (zq_win t r)) : zq_ru t x1 x5 x8 := by
  rcases h with ⟨r, hr, e1, e2⟩ | h
  · exact Or.inl ⟨r, hr, e1, e2, h8 r hr e1⟩
  · exact Or.inr h
theorem zq_FD {t B : Nat} (hm : (t, B) ∈ zq_TL) (ht : t < 3125) : (31 : Int32) &&& (((1 : Int32) <<< ((nI t - nI t / 5 * 5) &&& 31)) ^^^ (-1)) = nI (31 - 2 ^ (t % 5)) ∧ (1 : Int32) <<< ((nI t / 625) &&& 31) = nI (2 ^ (t / 625)) := by
  have f : zq_all (fun t _ => decide (3125 ≤ t) || (((31 : Int32) &&& (((1 : Int32) <<< ((nI t - nI t / 5 * 5) &&& 31)) ^^^ (-1)) == nI (31 - 2 ^ (t % 5))) && ((1 : Int32) <<< ((nI t / 625) &&& 31) == nI (2 ^ (t / 625))))) = true := by decide +kernel
  have g := zq_allI f hm
  rw [Bool.or_eq_true, decide_eq_true_iff, Bool.and_eq_true] at g
  rcases g with g | g
  · omega
  · exact ⟨eq_of_beq g.1, eq_of_beq g.2⟩
theorem zq_l120 {post : Int32 → St0 → Prop} {t B : Nat} {x0 x1 x2 x5 x6 x7 : Int32} (hP : post 1 ()) (hm : (t, B) ∈ zq_TL) (hG : zq_G t x0) (hR : zq_rk x1 x5) (hC : zq_cd t x2 x6 x7) : wL_lawOf_120 post 666 10640 x0 x1 x2 (nI (zq_cn t)) x5 x6 x7 0 0 := by
  have hG' := hG
  rcases hG with ⟨ht, rfl⟩ | ⟨rfl, hx⟩
  · obtain ⟨d1, d2⟩ := zq_FD hm ht
    refine br_f (by rw [zq_cn1 ht]; decide) (br_c (fun z => ⟨by decide, zq_l157 hP hm hG' (zq_ruI hR (fun r hr e => ?_)) hC⟩) (fun z => ⟨by decide, zq_l157 hP hm hG' (zq_ruI hR (fun r hr e => ?_)) hC⟩))
    · rw [z] at e
      have e' : nI 1 = nI r := e
      rw [nI_eq (by decide) (by omega)] at e'
      subst e'
      rw [d1]
      unfold zq_win
      rw [if_pos ht, if_pos rfl]
    · have n1 : ¬ r = 1 := fun q => z (by rw [e, q]; rfl)
      rw [d2]
      unfold zq_win
      rw [if_pos ht, if_neg n1]
  · exact br_t (by decide) (zq_l157 hP hm hG' (zq_ruI hR (fun r hr e => by unfold zq_win; rw [if_neg (by decide)]; rfl)) hC)
theorem zq_FP {t B : Nat} (hm : (t, B) ∈ zq_TL) (ht : t < 3125) {c : Nat} (hc : c < 5) : zm_L_place (fun y => y == nI (zq_pl t c)) (nI t) (nI c) = true := by
  have f : zq_all (fun t _ => decide (3125 ≤ t) || zq_rg 5 (fun c => zm_L_place (fun y => y == nI (zq_pl t c)) (nI t) (nI c))) = true := by decide +kernel
  have g := zq_allI f hm
  rw [Bool.or_eq_true, decide_eq_true_iff] at g
  rcases g with g | g
  · omega
  · exact zq_rgI g hc
theorem zq_l99 {post : Int32 → St0 → Prop} {t B : Nat} {x0 x1 x2 x5 z0 : Int32} (hP : post 1 ()) (hm : (t, B) ∈ zq_TL) (hG : zq_G t x0) (hR : zq_rk x1 x5) (hC : (∃ c, c < 5 ∧ x2 = nI c ∧ z0 = 1) ∨ ((x2 < 0 ∨ 5 ≤ x2) ∧ z0 = 0)) : wL_lawOf_99 post 666 10640 x0 x1 x2 (nI (zq_cn t)) x5 z0 0 0 := by
  rcases hC with ⟨c, hc, rfl, rfl⟩ | ⟨h, rfl⟩
  · have hG' := hG
    rcases hG with ⟨ht, rfl⟩ | ⟨rfl, hx⟩
    · exact br_f (by rw [zq_cn1 ht]; decide) (br_f (by decide) (zq_s_L_place (zq_FP hm ht hc) (zq_eqk (zq_l120 hP hm hG' hR (Or.inl ⟨c, hc, rfl, rfl, (if_pos ht).symm⟩)))))
    · exact br_t (by decide) (zq_l120 hP hm hG' hR (Or.inl ⟨c, hc, rfl, rfl, (if_neg (by decide)).symm⟩))
  · exact br_c (fun _ => zq_l120 hP hm hG hR (Or.inr ⟨h, rfl⟩)) (fun _ => br_t rfl (zq_l120 hP hm hG hR (Or.inr ⟨h, rfl⟩)))
theorem zq_45 {x : Int32} (h : 4 < x) : 5 ≤ x := by
  rw [Int32.lt_iff_toInt_lt] at h
  rw [Int32.le_iff_toInt_le]
  have e4 : (4 : Int32).toInt = 4 := rfl
  have e5 : (5 : Int32).toInt = 5 := rfl
  omega
theorem zq_l83 {post : Int32 → St0 → Prop} {t B : Nat} {x0 x1 x2 x5 : Int32} (hP : post 1 ()) (hm : (t, B) ∈ zq_TL) (hG : zq_G t x0) (hR : zq_rk x1 x5) : wL_lawOf_83 post 666 10640 x0 x1 x2 (nI (zq_cn t)) x5 0 0 := by
  by_cases h : x2 < 0
  · exact br_t h (zq_l99 hP hm hG hR (Or.inr ⟨Or.inl h, rfl⟩))
  · by_cases g : 4 < x2
    · exact br_f h (br_t g (zq_l99 hP hm hG hR (Or.inr ⟨Or.inr (zq_45 g), rfl⟩)))
    · obtain ⟨c, hc, rfl⟩ := nI_of2 (M := 4) (n := 4) rfl h (Int32.not_lt.mp g)
      exact br_f h (br_f g (zq_l99 hP hm hG hR (Or.inl ⟨c, by omega, rfl, rfl⟩)))
theorem zq_l66 {post : Int32 → St0 → Prop} {t B : Nat} {x0 x1 x2 : Int32} (hP : post 1 ()) (hm : (t, B) ∈ zq_TL) (hG : zq_G t x0) : wL_lawOf_66 post 666 10640 x0 x1 x2 (nI (zq_cn t)) 0 0 := by
  by_cases h : x1 < 0
  · exact br_t h (zq_l83 hP hm hG (Or.inr ⟨Or.inl h, rfl⟩))
  · by_cases g : 16 < x1
    · exact br_f h (br_t g (zq_l83 hP hm hG (Or.inr ⟨Or.inr (Int32.not_le.mpr g), rfl⟩)))
    · obtain ⟨r, hr, rfl⟩ := nI_of2 (M := 16) (n := 16) rfl h (Int32.not_lt.mp g)
      exact br_f h (br_f g (zq_l83 hP hm hG (Or.inl ⟨r, hr, rfl, rfl⟩)))
theorem zq_Lbad {post : Int32 → St0 → Prop} {x0 x1 x2 z : Int32} (hP : post 1 ()) (hx : zq_bad x0) (hz : ¬ z = 31) : wL_lawOf_54 post 666 10640 x0 x1 x2 z 0 0 :=
  br_f hz (zq_l66 (t := 3125) (B := 0) hP (List.mem_cons_self) (Or.inr ⟨rfl, hx⟩))
def zq_LS (x : Int32) : Int32 := (((((1 : Int32) <<< ((x / 625) &&& 31)) ||| ((1 : Int32) <<< (((x / 125) - (x / 125) / 5 * 5) &&& 31))) ||| ((1 : Int32) <<< (((x / 25) - (x / 25) / 5 * 5) &&& 31))) ||| ((1 : Int32) <<< (((x / 5) - (x / 5) / 5 * 5) &&& 31))) ||| ((1 : Int32) <<< ((x - x / 5 * 5) &&& 31))
theorem zq_LSF {m : Nat} (h : m < 3125) : zq_LS (nI m) = 31 ↔ zq_seen m = 31 := by
  have f : zq_rg 3125 (fun m => decide (zq_LS (nI m) = 31) == decide (zq_seen m = 31)) = true := by decide +kernel
  exact decide_eq_decide.mp (eq_of_beq (zq_rgI f h))
theorem zq_lawOf {post : Int32 → St0 → Prop} (hP : post 1 ()) (x0 x1 x2 : Int32) : wpL_lawOf post 666 10640 () x0 x1 x2 := by
  by_cases h : x0 < 0
  · exact br_t h (zq_Lbad hP (Or.inl h) (by decide))
  · by_cases g : x0 ≤ 3124
    · obtain ⟨m, hm, rfl⟩ := nI_of2 (M := 3124) (n := 3124) rfl h g
      refine br_f h (br_t g ⟨by decide, by decide, by decide, by decide, by decide, by decide, by decide, by decide, ?_⟩)
      show wL_lawOf_54 post 666 10640 (nI m) x1 x2 (zq_LS (nI m)) 0 0
      by_cases e : zq_LS (nI m) = 31
      · obtain ⟨B, hB⟩ := zq_O2 (by omega) ((zq_LSF (by omega)).mp e)
        have hl : m < 3125 := by omega
        have q := @zq_l66 post m B (nI m) x1 x2 hP hB (Or.inl ⟨hl, rfl⟩)
        rw [zq_cn1 hl] at q
        exact br_t e q
      · exact zq_Lbad hP (Or.inr (Or.inr ⟨m, by omega, rfl, fun z => e ((zq_LSF (by omega)).mpr z)⟩)) e
    · exact br_f h (br_f g (zq_Lbad hP (Or.inr (Or.inl g)) (by decide)))
theorem zq_cell {post : Int32 → Prop} {L : Nat} {xs : Nat → Int32} (hL : L ≤ 3) {p : Nat} (hp : p < 3) (H : ∀ v, post v) : wpL_cellAt post L xs () (nI p) :=
  pk_le L p (fun _ => H _) (fun z => ⟨pk_in p L z, H _⟩)
theorem i_vc (xs : Nat → Int32) (L : Nat) (hL : L ≤ 3) : wpL_law (fun r => r = 1) L xs :=
  zq_cell (p := 0) hL (by decide) (fun x0 => zq_cell (p := 1) hL (by decide) (fun x1 => zq_cell (p := 2) hL (by decide) (fun x2 => ⟨666, 10640, by decide, by decide, zq_lawOf rfl x0 x1 x2⟩)))
end
