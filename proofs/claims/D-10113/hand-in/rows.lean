section
/-! what each method computes, over ints -/
def kz_sh (s : Int32) : Int32 := if s <<< ((1 : Int32) &&& 31) < 128 then s <<< ((1 : Int32) &&& 31) else (s <<< ((1 : Int32) &&& 31)) ^^^ 131
def kz_bx (b i x s : Int32) : Int32 := if ((b >>> (i &&& 31)) &&& 1) = 1 then x ^^^ s else x
def kz_ml (b : Int32) : Nat → Nat → Int32 → Int32 → Int32
  | 0, _, x, _ => x
  | n + 1, i, x, s => kz_ml b n (i + 1) (kz_bx b (nI i) x s) (kz_sh s)
def kz_mul (a b : Int32) : Int32 := kz_ml b 7 0 0 a
def kz_iv : Nat → Int32 → Int32 → Int32
  | 0, x, _ => x
  | n + 1, x, s => kz_iv n (kz_mul x (kz_mul s s)) (kz_mul s s)
def kz_inv (a : Int32) : Int32 := kz_iv 6 1 a
def kz_tl : Nat → Int32 → Int32 → Int32
  | 0, x, _ => x
  | n + 1, x, p => kz_tl n (x ^^^ p) (kz_mul p p)
def kz_trc (a : Int32) : Int32 := kz_tl 7 0 a
def kz_rl : Nat → Int32 → Int32 → Int32
  | 0, x, _ => x
  | n + 1, x, p => kz_rl n (x ^^^ p) (kz_mul (kz_mul p p) (kz_mul p p))
def kz_rot (a : Int32) : Int32 := kz_rl 4 0 a
def kz_onc (cv p : Int32) : Int32 :=
  if (kz_mul (p &&& 127) (p &&& 127) ^^^ kz_mul (p >>> ((7 : Int32) &&& 31)) (p &&& 127)) = ((kz_mul (kz_mul (p >>> ((7 : Int32) &&& 31)) (p >>> ((7 : Int32) &&& 31))) (p >>> ((7 : Int32) &&& 31)) ^^^ (if cv = 1 then kz_mul (p >>> ((7 : Int32) &&& 31)) (p >>> ((7 : Int32) &&& 31)) else 0)) ^^^ 1) then 1 else 0
def kz_bad (cv p : Int32) : Int32 := if p = 16384 then 0 else if p < 0 then 1 else if 16384 < p then 1 else if kz_onc cv p = 0 then 1 else 0
def kz_min (p : Int32) : Int32 := if p = 16384 then 16384 else p ^^^ (p >>> ((7 : Int32) &&& 31))
def kz_sqd (p : Int32) : Int32 := if p = 16384 then 16384 else (kz_mul (p >>> ((7 : Int32) &&& 31)) (p >>> ((7 : Int32) &&& 31)) <<< ((7 : Int32) &&& 31)) ||| kz_mul (p &&& 127) (p &&& 127)
def kz_sl2 (p : Int32) : Int32 := (p >>> ((7 : Int32) &&& 31)) ^^^ kz_mul (p &&& 127) (kz_inv (p >>> ((7 : Int32) &&& 31)))
def kz_s2 (cv p : Int32) : Int32 := (kz_mul (kz_sl2 p) (kz_sl2 p) ^^^ kz_sl2 p) ^^^ cv
def kz_twi (cv p : Int32) : Int32 := if p = 16384 then 16384 else if p >>> ((7 : Int32) &&& 31) = 0 then 16384 else (kz_s2 cv p <<< ((7 : Int32) &&& 31)) ||| (kz_mul (p >>> ((7 : Int32) &&& 31)) (p >>> ((7 : Int32) &&& 31)) ^^^ kz_mul (kz_sl2 p ^^^ 1) (kz_s2 cv p))
def kz_sl (p q : Int32) : Int32 := kz_mul ((p ^^^ q) &&& 127) (kz_inv ((p >>> ((7 : Int32) &&& 31)) ^^^ (q >>> ((7 : Int32) &&& 31))))
def kz_s3 (cv p q : Int32) : Int32 := (((kz_mul (kz_sl p q) (kz_sl p q) ^^^ kz_sl p q) ^^^ (p >>> ((7 : Int32) &&& 31))) ^^^ (q >>> ((7 : Int32) &&& 31))) ^^^ cv
def kz_chd (cv p q : Int32) : Int32 := (kz_s3 cv p q <<< ((7 : Int32) &&& 31)) ||| ((kz_mul (kz_sl p q) ((p >>> ((7 : Int32) &&& 31)) ^^^ kz_s3 cv p q) ^^^ kz_s3 cv p q) ^^^ (p &&& 127))
def kz_sum (cv p q : Int32) : Int32 := if p = 16384 then q else if q = 16384 then p else if p >>> ((7 : Int32) &&& 31) = q >>> ((7 : Int32) &&& 31) then (if p = q then kz_twi cv p else 16384) else kz_chd cv p q
def kz_rt (cv x : Int32) : Int32 := (x ^^^ cv) ^^^ kz_mul (kz_inv x) (kz_inv x)
def kz_p1 (cv x : Int32) : Int32 := (x <<< ((7 : Int32) &&& 31)) ||| kz_mul x (kz_rot (kz_rt cv x))
def kz_rnd (a b : Int32) : Int32 := if 1 ≤ b then (if 0 ≤ (2 * a) + b then ((2 * a) + b) / (2 * b) else if ((((2 * a) + b) / (2 * b)) * 2) * b = (2 * a) + b then ((2 * a) + b) / (2 * b) else ((2 * a) + b) / (2 * b) - 1) else 0
def kz_nm (m uA uB : Int32) : Int32 := ((uA * uA) + ((m * uA) * uB)) + ((2 * uB) * uB)
def kz_q0 (m uA uB k : Int32) : Int32 := kz_rnd (k * (uA + (m * uB))) (kz_nm m uA uB)
def kz_q1 (m uA uB k : Int32) : Int32 := kz_rnd ((-k) * uB) (kz_nm m uA uB)
def kz_A0 (m uA uB k : Int32) : Int32 := k - ((kz_q0 m uA uB k * uA) - ((2 * kz_q1 m uA uB k) * uB))
def kz_B0 (m uA uB k : Int32) : Int32 := -(((kz_q0 m uA uB k * uB) + (kz_q1 m uA uB k * uA)) + ((m * kz_q1 m uA uB k) * uB))
def kz_dg (a b : Int32) : Int32 := if (a &&& 1) = 1 then 2 - ((a - (2 * b)) &&& 3) else 0
def kz_ha (a b : Int32) : Int32 := (if (a &&& 1) = 1 then a - (2 - ((a - (2 * b)) &&& 3)) else a) / 2
def kz_rcd (m : Int32) : Nat → Int32 → Int32 → List Int32
  | 0, _, _ => []
  | n + 1, a, b => if a = 0 ∧ b = 0 then [] else kz_dg a b :: kz_rcd m n (b + (m * kz_ha a b)) (-(kz_ha a b))
def kz_dgs (m uA uB k : Int32) : List Int32 := kz_rcd m 40 (kz_A0 m uA uB k) (kz_B0 m uA uB k)
def kz_hs (cv p d y : Int32) : Int32 := if d = 1 then kz_sum cv y p else if d = -1 then kz_sum cv y (kz_min p) else y
def kz_hor (cv p : Int32) : List Int32 → Int32
  | [] => 16384
  | d :: l => kz_hs cv p d (kz_sqd (kz_hor cv p l))
/-! the picture: the points are the multiples of one of them -/
def kz_EX : Nat := 2120554631669334190655558189701300446703750547873574662227758752601028683762553813163900280148940558177636536641860336055841903583808584996252479132321820934452753518485228778756196195950785654670671716782143826019531380478776957959333815682334073330007878554334855425
def kz_LG : Nat := 503303598964455612746452337709073893966579758278161096143550713934713639264772211869980381528757591005896241120044067867836616769464179424350257294367796179758793383218588503166040635140982510427880193252580181704818945443102157276410608089680397520114585705893624561664
def kz_IN : Nat := 264252238146710305686257804470189294039446833338504738521568942703256017040196207439977050044113394829708057840587717427058799594228919048759295394502336677537786530372450569960354381098982887015449730425007973075532082081760329979763345169896354208108983718432188940416
def kz_mN (x y : Nat) : Nat := if x = 0 then 0 else if y = 0 then 0 else (kz_EX >>> (7 * (((kz_LG >>> (7 * x)) % 128 + (kz_LG >>> (7 * y)) % 128) % 127))) % 128
def kz_iN (x : Nat) : Nat := (kz_IN >>> (7 * x)) % 128
def kz_n (c : Bool) : Nat := bif c then 142 else 116
def kz_c (c : Bool) : Nat := bif c then 1 else 0
def kz_s (c : Bool) : Nat := bif c then 103 else 65
def kz_mm (c : Bool) : Int32 := bif c then 1 else (-1)
def kz_ua (c : Bool) : Int32 := bif c then (-11) else 9
def kz_tab (c : Bool) : Nat := bif c then 1671092268046761701542676358403637872673816415247672308646420600590667930310748013716494492990556832674884493803197433827061286587508156459170736087057277350601959703102217261072370146269224086210903974988912038980693350089954121301153924139702198852796265870449100817081171863680702838533574799344950202985009732003057341577153610979091587069911665283896543936682754166248736582297273087012512502976958904868512647703494899936512335008623702743164909439160156815935167604363875620810487349128913538128772903627297324815789781706290240976907594643529133696488803370645548032064411633652226043785598882230925878209079844253160145896956903424 else 3223383034990634846419354026455397290142284273677498556467551447287073571213202753258505308260503346281737601832106004282754792682183658218978076213321742416517676514062730553466714768910356256368767130905629541453768904020840766692567028609452298749768668616389414918435442781916458596458413377910146776439648329197570819477959738481393313405923752609192569721575657450431552263065728497432339645408679571742401668836905734588271008219927730345854727234137187694315369316878278110251732082655114016278884667355782391709696
def kz_T (c : Bool) (j : Nat) : Nat := (kz_tab c >>> (15 * (j % kz_n c))) % 32768
def kz_P (c : Bool) (j : Nat) : Int32 := nI (kz_T c j)
def kz_sl2N (p : Nat) : Nat := (p / 128) ^^^ kz_mN (p % 128) (kz_iN (p / 128))
def kz_s2N (c : Bool) (p : Nat) : Nat := (kz_mN (kz_sl2N p) (kz_sl2N p) ^^^ kz_sl2N p) ^^^ kz_c c
def kz_twN (c : Bool) (p : Nat) : Nat := if p / 128 = 0 then 16384 else kz_s2N c p * 128 + (kz_mN (p / 128) (p / 128) ^^^ kz_mN (kz_sl2N p ^^^ 1) (kz_s2N c p))
def kz_slN (p q : Nat) : Nat := kz_mN ((p ^^^ q) % 128) (kz_iN ((p / 128) ^^^ (q / 128)))
def kz_s3N (c : Bool) (p q : Nat) : Nat := (((kz_mN (kz_slN p q) (kz_slN p q) ^^^ kz_slN p q) ^^^ (p / 128)) ^^^ (q / 128)) ^^^ kz_c c
def kz_chN (c : Bool) (p q : Nat) : Nat := kz_s3N c p q * 128 + ((kz_mN (kz_slN p q) ((p / 128) ^^^ kz_s3N c p q) ^^^ kz_s3N c p q) ^^^ (p % 128))
def kz_smN (c : Bool) (p q : Nat) : Nat := if p = 16384 then q else if q = 16384 then p else if p / 128 = q / 128 then (if p = q then kz_twN c p else 16384) else kz_chN c p q
def kz_ev (c : Bool) : List Int32 → Nat
  | [] => 0
  | d :: l => if d = 1 then kz_s c * kz_ev c l + 1 else if d = -1 then kz_s c * kz_ev c l + (kz_n c - 1) else kz_s c * kz_ev c l
def kz_E (c : Bool) (k : Int32) : Nat := kz_ev c (kz_dgs (kz_mm c) (kz_ua c) 7 (k - k / nI (kz_n c) * nI (kz_n c)))
end
section
/-! the field's methods -/
theorem kz_w_ml {post : Int32 → Prop} {b : Int32} {cv cn m uA uB pa pb dg : Int32} {am : Nat → Int32} (n : Nat) : ∀ (i : Nat) (x s : Int32), i + n = 7 → post (kz_ml b n i x s) → wX_mul_8 post b cv cn m uA uB pa pb dg am (n + 1) x s (nI i) := by
  induction n with
  | zero =>
    intro i x s hi h
    have e : i = 7 := by omega
    subst e
    exact br_t (by decide) h
  | succ n ih =>
    intro i x s hi h
    have hs : ∀ x', post (kz_ml b n (i + 1) x' (kz_sh s)) → wX_mul_30 post (wX_mul_8 post b cv cn m uA uB pa pb dg am (n + 1)) b x' s (nI i) cv cn m uA uB pa pb dg am := by
      intro x' h'
      have t := ih (i + 1) x' (kz_sh s) (by omega) h'
      unfold wX_mul_30
      refine nm_e (br_c (fun hc => nm_r (nI_1 i) ?_) (fun hc => nm_e (nm_r (nI_1 i) ?_)))
      · rw [show kz_sh s = s <<< ((1 : Int32) &&& 31) from if_pos hc] at t
        exact t
      · rw [show kz_sh s = (s <<< ((1 : Int32) &&& 31)) ^^^ 131 from if_neg hc] at t
        exact t
    have h1 : post (kz_ml b n (i + 1) (kz_bx b (nI i) x s) (kz_sh s)) := h
    refine br_f (nI_ge (b := 7) (by omega) (by decide)) (br_c (fun hc => nm_e (hs _ ?_)) (fun hc => hs _ ?_))
    · rw [show kz_bx b (nI i) x s = x ^^^ s from if_pos hc] at h1
      exact h1
    · rw [show kz_bx b (nI i) x s = x from if_neg hc] at h1
      exact h1
theorem kz_w_mul {post : Int32 → Prop} {cv cn m uA uB pa pb dg : Int32} {am : Nat → Int32} {a b : Int32} (h : post (kz_mul a b)) : wpX_mul post (cv, cn, m, uA, uB, pa, pb, dg, am) a b := ⟨8, kz_w_ml 7 0 0 a (by omega) h⟩
theorem kz_w_iv {post : Int32 → Prop} {cv cn m uA uB pa pb dg : Int32} {am : Nat → Int32} (n : Nat) : ∀ (i : Nat) (x s : Int32), i + n = 7 → post (kz_iv n x s) → wX_inverse_7 post cv cn m uA uB pa pb dg am (n + 1) x s (nI i) := by
  induction n with
  | zero =>
    intro i x s hi h
    have e : i = 7 := by omega
    subst e
    exact br_t (by decide) h
  | succ n ih =>
    intro i x s hi h
    exact br_f (nI_ge (b := 7) (by omega) (by decide)) (kz_w_mul (kz_w_mul (nm_r (nI_1 i) (ih (i + 1) _ _ (by omega) h))))
theorem kz_w_inv {post : Int32 → Prop} {cv cn m uA uB pa pb dg : Int32} {am : Nat → Int32} {a : Int32} (h : post (kz_inv a)) : wpX_inverse post (cv, cn, m, uA, uB, pa, pb, dg, am) a := ⟨7, kz_w_iv 6 1 1 a (by omega) h⟩
theorem kz_w_tl {post : Int32 → Prop} {cv cn m uA uB pa pb dg : Int32} {am : Nat → Int32} (n : Nat) : ∀ (i : Nat) (x s : Int32), i + n = 7 → post (kz_tl n x s) → wX_trace_7 post cv cn m uA uB pa pb dg am (n + 1) x s (nI i) := by
  induction n with
  | zero =>
    intro i x s hi h
    have e : i = 7 := by omega
    subst e
    exact br_t (by decide) h
  | succ n ih =>
    intro i x s hi h
    exact br_f (nI_ge (b := 7) (by omega) (by decide)) (nm_e (kz_w_mul (nm_r (nI_1 i) (ih (i + 1) _ _ (by omega) h))))
theorem kz_w_trc {post : Int32 → Prop} {cv cn m uA uB pa pb dg : Int32} {am : Nat → Int32} {a : Int32} (h : post (kz_trc a)) : wpX_trace post (cv, cn, m, uA, uB, pa, pb, dg, am) a := ⟨8, kz_w_tl 7 0 0 a (by omega) h⟩
theorem kz_w_rl {post : Int32 → Prop} {cv cn m uA uB pa pb dg : Int32} {am : Nat → Int32} (n : Nat) : ∀ (i : Nat) (x s : Int32), i + n = 4 → post (kz_rl n x s) → wX_root_7 post cv cn m uA uB pa pb dg am (n + 1) x s (nI i) := by
  induction n with
  | zero =>
    intro i x s hi h
    have e : i = 4 := by omega
    subst e
    exact br_t (by decide) h
  | succ n ih =>
    intro i x s hi h
    exact br_f (nI_ge (b := 4) (by omega) (by decide)) (nm_e (kz_w_mul (kz_w_mul (nm_r (nI_1 i) (ih (i + 1) _ _ (by omega) h)))))
theorem kz_w_rot {post : Int32 → Prop} {cv cn m uA uB pa pb dg : Int32} {am : Nat → Int32} {a : Int32} (h : post (kz_rot a)) : wpX_root post (cv, cn, m, uA, uB, pa, pb, dg, am) a := ⟨5, kz_w_rl 4 0 0 a (by omega) h⟩
theorem kz_w_quo {post : Int32 → Prop} {cv cn m uA uB pa pb dg : Int32} {am : Nat → Int32} {a b : Int32} (h : post (kz_mul a (kz_inv b))) : wpX_quotient post (cv, cn, m, uA, uB, pa, pb, dg, am) a b := kz_w_inv (kz_w_mul h)
/-! points -/
theorem kz_w_onc {post : Int32 → Prop} {cv cn m uA uB pa pb dg : Int32} {am : Nat → Int32} {p : Int32} (h : post (kz_onc cv p)) : wpX_onCurve post (cv, cn, m, uA, uB, pa, pb, dg, am) p := by
  have key : ∀ z : Int32, z = (if cv = 1 then kz_mul (p >>> ((7 : Int32) &&& 31)) (p >>> ((7 : Int32) &&& 31)) else 0) → wX_onCurve_59 post (kz_mul (p &&& 127) (p &&& 127)) (kz_mul (p >>> ((7 : Int32) &&& 31)) (p &&& 127)) z (kz_mul (kz_mul (p >>> ((7 : Int32) &&& 31)) (p >>> ((7 : Int32) &&& 31))) (p >>> ((7 : Int32) &&& 31))) cv cn m uA uB pa pb dg am := by
    intro z hz
    unfold wX_onCurve_59
    subst hz
    refine nm_e (br_c (fun hc => ?_) (fun hc => ?_))
    · rw [show kz_onc cv p = 1 from if_pos hc] at h
      exact h
    · rw [show kz_onc cv p = 0 from if_neg hc] at h
      exact h
  refine nm_e (nm_e (kz_w_mul (kz_w_mul (kz_w_mul (kz_w_mul (br_c (fun hc => key _ ?_) (fun hc => key _ ?_)))))))
  · exact (if_pos hc).symm
  · exact (if_neg hc).symm
theorem kz_w_bad {post : Int32 → Prop} {cv cn m uA uB pa pb dg : Int32} {am : Nat → Int32} {p : Int32} (h : post (kz_bad cv p)) : wpX_bad post (cv, cn, m, uA, uB, pa, pb, dg, am) p := by
  refine br_c (fun h1 => ?_) (fun h1 => br_c (fun h2 => ?_) (fun h2 => br_c (fun h3 => ?_) (fun h3 => kz_w_onc (br_c (fun h4 => ?_) (fun h4 => ?_)))))
  · rw [show kz_bad cv p = 0 from if_pos h1] at h
    exact h
  · rw [show kz_bad cv p = 1 from (if_neg h1).trans (if_pos h2)] at h
    exact h
  · rw [show kz_bad cv p = 1 from (if_neg h1).trans ((if_neg h2).trans (if_pos h3))] at h
    exact h
  · rw [show kz_bad cv p = 1 from (if_neg h1).trans ((if_neg h2).trans ((if_neg h3).trans (if_pos h4)))] at h
    exact h
  · rw [show kz_bad cv p = 0 from (if_neg h1).trans ((if_neg h2).trans ((if_neg h3).trans (if_neg h4)))] at h
    exact h
theorem kz_w_min {post : Int32 → Prop} {cv cn m uA uB pa pb dg : Int32} {am : Nat → Int32} {p : Int32} (h : post (kz_min p)) : wpX_minus post (cv, cn, m, uA, uB, pa, pb, dg, am) p := by
  refine br_c (fun h1 => ?_) (fun h1 => ?_)
  · rw [show kz_min p = 16384 from if_pos h1] at h
    exact h
  · rw [show kz_min p = p ^^^ (p >>> ((7 : Int32) &&& 31)) from if_neg h1] at h
    exact h
theorem kz_w_sqd {post : Int32 → Prop} {cv cn m uA uB pa pb dg : Int32} {am : Nat → Int32} {p : Int32} (h : post (kz_sqd p)) : wpX_squared post (cv, cn, m, uA, uB, pa, pb, dg, am) p := by
  refine br_c (fun h1 => ?_) (fun h1 => kz_w_mul (kz_w_mul ?_))
  · rw [show kz_sqd p = 16384 from if_pos h1] at h
    exact h
  · rw [show kz_sqd p = (kz_mul (p >>> ((7 : Int32) &&& 31)) (p >>> ((7 : Int32) &&& 31)) <<< ((7 : Int32) &&& 31)) ||| kz_mul (p &&& 127) (p &&& 127) from if_neg h1] at h
    exact h
theorem kz_w_twi {post : Int32 → Prop} {cv cn m uA uB pa pb dg : Int32} {am : Nat → Int32} {p : Int32} (h : post (kz_twi cv p)) : wpX_twice post (cv, cn, m, uA, uB, pa, pb, dg, am) p := by
  refine nm_e (br_c (fun h1 => ?_) (fun h1 => br_c (fun h2 => ?_) (fun h2 => kz_w_quo (nm_e (kz_w_mul (nm_e (kz_w_mul (kz_w_mul (nm_e ?_)))))))))
  · rw [show kz_twi cv p = 16384 from if_pos h1] at h
    exact h
  · rw [show kz_twi cv p = 16384 from (if_neg h1).trans (if_pos h2)] at h
    exact h
  · rw [show kz_twi cv p = (kz_s2 cv p <<< ((7 : Int32) &&& 31)) ||| (kz_mul (p >>> ((7 : Int32) &&& 31)) (p >>> ((7 : Int32) &&& 31)) ^^^ kz_mul (kz_sl2 p ^^^ 1) (kz_s2 cv p)) from (if_neg h1).trans (if_neg h2)] at h
    exact h
theorem kz_w_sum {post : Int32 → Prop} {cv cn m uA uB pa pb dg : Int32} {am : Nat → Int32} {p q : Int32} (h : post (kz_sum cv p q)) : wpX_sum post (cv, cn, m, uA, uB, pa, pb, dg, am) p q := by
  refine br_c (fun h1 => ?_) (fun h1 => br_c (fun h2 => ?_) (fun h2 => nm_e (nm_e (br_c (fun h3 => br_c (fun h4 => kz_w_twi ?_) (fun h4 => ?_)) (fun h3 => kz_w_quo (kz_w_mul (nm_e (kz_w_mul (nm_e ?_)))))))))
  · rw [show kz_sum cv p q = q from if_pos h1] at h
    exact h
  · rw [show kz_sum cv p q = p from (if_neg h1).trans (if_pos h2)] at h
    exact h
  · rw [show kz_sum cv p q = kz_twi cv p from (if_neg h1).trans ((if_neg h2).trans ((if_pos h3).trans (if_pos h4)))] at h
    exact h
  · rw [show kz_sum cv p q = 16384 from (if_neg h1).trans ((if_neg h2).trans ((if_pos h3).trans (if_neg h4)))] at h
    exact h
  · rw [show kz_sum cv p q = kz_chd cv p q from (if_neg h1).trans ((if_neg h2).trans (if_neg h3))] at h
    exact h
theorem kz_w_fst {post : Int32 → Prop} {cv cn m uA uB pa pb dg : Int32} {am : Nat → Int32} {x st : Int32} (h4 : post (-4)) (h0 : x = 0 → post 1) (hp : ¬ x = 0 → kz_trc (kz_rt cv x) = 0 → post (kz_p1 cv x) ∧ post (kz_p1 cv x ^^^ x)) : wpX_firstAt post (cv, cn, m, uA, uB, pa, pb, dg, am) x st := by
  refine br_c (fun e => br_c (fun _ => h4) (fun _ => h0 e)) (fun e => kz_w_inv (kz_w_mul (nm_e (kz_w_trc (br_c (fun t => kz_w_rot (kz_w_mul (nm_e (nm_e ?_)))) (fun _ => h4))))))
  obtain ⟨g1, g2⟩ := hp e t
  have k128 : ∀ z, post z → wX_firstAt_128 post st z cv cn m uA uB pa pb dg am := fun z hz => br_c (fun _ => h4) (fun _ => hz)
  have k103 : ∀ z, post z → wX_firstAt_103 post st (kz_p1 cv x) (kz_p1 cv x ^^^ x) z cv cn m uA uB pa pb dg am := fun z hz => br_c (fun _ => br_c (fun _ => k128 _ g1) (fun _ => k128 _ g2)) (fun _ => hz)
  exact br_c (fun _ => k103 _ g2) (fun _ => k103 _ g1)
end
section
/-! multiples -/
theorem kz_w_rnd {post : Int32 → Prop} {cv cn m uA uB pa pb dg : Int32} {am : Nat → Int32} {a b : Int32} (hb : ¬ (2 * b) = 0) (h : post (kz_rnd a b)) : wpX_rounded post (cv, cn, m, uA, uB, pa, pb, dg, am) a b := by
  refine br_c (fun h1 => nm_e ⟨hb, nm_e (br_c (fun h2 => ?_) (fun h2 => br_c (fun h3 => ?_) (fun h3 => ?_)))⟩) (fun h1 => ?_)
  · rw [show kz_rnd a b = ((2 * a) + b) / (2 * b) from (if_pos h1).trans (if_pos h2)] at h
    exact h
  · rw [show kz_rnd a b = ((2 * a) + b) / (2 * b) from (if_pos h1).trans ((if_neg h2).trans (if_pos h3))] at h
    exact h
  · rw [show kz_rnd a b = ((2 * a) + b) / (2 * b) - 1 from (if_pos h1).trans ((if_neg h2).trans (if_neg h3))] at h
    exact h
  · rw [show kz_rnd a b = 0 from if_neg h1] at h
    exact h
theorem kz_w_red {post : St1 → Prop} {cv cn m uA uB pa pb dg : Int32} {am : Nat → Int32} {k : Int32} (hb : ¬ (2 * kz_nm m uA uB) = 0) (h : post (cv, cn, m, uA, uB, kz_A0 m uA uB k, kz_B0 m uA uB k, dg, am)) : wpX_reduce post (cv, cn, m, uA, uB, pa, pb, dg, am) k :=
  nm_r (e' := kz_nm m uA uB) rfl (kz_w_rnd hb (kz_w_rnd hb (nm_e (nm_e h))))
theorem kz_w_70 {post : St1 → Prop} {J : Int32 → Int32 → Int32 → Int32 → (Nat → Int32) → Prop} {cv cn m uA uB a b d : Int32} {am : Nat → Int32} {i : Nat} (hi : i < 40) (h : J (nI (i + 1)) (b + (m * (a / 2))) (-(a / 2)) (nI (i + 1)) (upd am i d)) : wX_recode_70 post J (nI i) d cv cn m uA uB a b (nI i) am := by
  unfold wX_recode_70
  exact ⟨pk_in i 40 hi, nm_r (e' := upd am i d) (by rw [nI_clamp (by omega)]) (nm_r (nI_1 i) ⟨by decide, nm_e (nm_e (nm_e (nm_r (nI_1 i) h)))⟩)⟩
theorem kz_w_32 {post : St1 → Prop} {J : Int32 → Int32 → Int32 → Int32 → (Nat → Int32) → Prop} {cv cn m uA uB a b : Int32} {am : Nat → Int32} {i : Nat} (hi : i < 40) (h : J (nI (i + 1)) (b + (m * kz_ha a b)) (-(kz_ha a b)) (nI (i + 1)) (upd am i (kz_dg a b))) : wX_recode_32 post J (nI i) cv cn m uA uB a b (nI i) am := by
  unfold wX_recode_32
  refine br_c (fun hc => nm_e (nm_e (kz_w_70 hi ?_))) (fun hc => kz_w_70 hi ?_)
  · rw [show kz_dg a b = 2 - ((a - (2 * b)) &&& 3) from if_pos hc, show kz_ha a b = (a - (2 - ((a - (2 * b)) &&& 3))) / 2 from congrArg (fun z => z / 2) (if_pos hc)] at h
    exact h
  · rw [show kz_dg a b = 0 from if_neg hc, show kz_ha a b = a / 2 from congrArg (fun z => z / 2) (if_neg hc)] at h
    exact h
theorem kz_w_12 {post : St1 → Prop} {cv cn m uA uB : Int32} (n : Nat) : ∀ (i : Nat) (a b : Int32) (am : Nat → Int32), i + n = 40 → (∀ (a' b' : Int32) (am' : Nat → Int32), (∀ j, j < i → am' j = am j) → (∀ j, j < (kz_rcd m n a b).length → am' (i + j) = (kz_rcd m n a b).getD j 0) → post (cv, cn, m, uA, uB, a', b', nI (i + (kz_rcd m n a b).length), am')) → wX_recode_12 post cv cn m uA uB (n + 1) (nI i) a b (nI i) am := by
  induction n with
  | zero =>
    intro i a b am hi H
    have e : i = 40 := by omega
    subst e
    exact br_t (by decide) (H a b am (fun _ _ => rfl) (fun j hj => absurd hj (Nat.not_lt_zero j)))
  | succ n ih =>
    intro i a b am hi H
    have key : ¬ (a = 0 ∧ b = 0) → wX_recode_32 post (wX_recode_12 post cv cn m uA uB (n + 1)) (nI i) cv cn m uA uB a b (nI i) am := by
      intro hne
      rw [show kz_rcd m (n + 1) a b = kz_dg a b :: kz_rcd m n (b + (m * kz_ha a b)) (-(kz_ha a b)) from if_neg hne] at H
      refine kz_w_32 (by omega) (ih (i + 1) _ _ _ (by omega) (fun a' b' am' h1 h2 => ?_))
      have t := H a' b' am' (fun j hj => by rw [h1 j (by omega), pk_un (by omega)]) (fun j hj => by
        cases j with
        | zero =>
          show am' (i + 0) = kz_dg a b
          rw [Nat.add_zero, h1 i (by omega), pk_us]
        | succ j =>
          have hj' : j < (kz_rcd m n (b + (m * kz_ha a b)) (-(kz_ha a b))).length := by
            rw [List.length_cons] at hj
            omega
          have u := h2 j hj'
          rw [show i + (j + 1) = i + 1 + j by omega]
          exact u)
      rw [List.length_cons, show ∀ z, i + (z + 1) = i + 1 + z from fun z => by omega] at t
      exact t
    refine br_f (nI_ge (b := 40) (by omega) (by decide)) (br_c (fun ha => br_c (fun hb => ?_) (fun hb => key (fun z => hb z.2))) (fun ha => key (fun z => ha z.1)))
    rw [show kz_rcd m (n + 1) a b = [] from if_pos ⟨ha, hb⟩] at H
    exact H a b am (fun _ _ => rfl) (fun j hj => absurd hj (Nat.not_lt_zero j))
theorem kz_rcd_len (m : Int32) (n : Nat) : ∀ a b : Int32, (kz_rcd m n a b).length ≤ n := by
  induction n with
  | zero => intro a b; exact Nat.le_refl 0
  | succ n ih =>
    intro a b
    by_cases h : a = 0 ∧ b = 0
    · rw [show kz_rcd m (n + 1) a b = [] from if_pos h]
      exact Nat.zero_le _
    · rw [show kz_rcd m (n + 1) a b = kz_dg a b :: kz_rcd m n (b + (m * kz_ha a b)) (-(kz_ha a b)) from if_neg h, List.length_cons]
      exact Nat.succ_le_succ (ih _ _)
theorem kz_w_rec {post : St1 → Prop} {cv cn m uA uB pa pb dg : Int32} {am : Nat → Int32} {k : Int32} (hb : ¬ (2 * kz_nm m uA uB) = 0) (h : ∀ (a' b' : Int32) (am' : Nat → Int32), (∀ j, j < (kz_dgs m uA uB k).length → am' j = (kz_dgs m uA uB k).getD j 0) → post (cv, cn, m, uA, uB, a', b', nI (kz_dgs m uA uB k).length, am')) : wpX_recode post (cv, cn, m, uA, uB, pa, pb, dg, am) k := by
  unfold wpX_recode
  refine kz_w_red hb ?_
  refine ⟨41, kz_w_12 40 0 _ _ _ (by omega) (fun a' b' am' _ h2 => ?_)⟩
  have t := h a' b' am' (fun j hj => by
    have u := h2 j hj
    rw [Nat.zero_add] at u
    exact u)
  rw [Nat.zero_add]
  exact t
theorem kz_m1 (x : Int32) : x + (-1) = x - 1 := (Int32.sub_eq_add_neg x 1).symm
theorem kz_w_33 {post : Int32 → St1 → Prop} {p : Int32} {cv cn m uA uB pa pb dg : Int32} {am : Nat → Int32} (l : List Int32) (hl : l.length ≤ 40) (ha : ∀ j, j < l.length → am j = l.getD j 0) (h : post (kz_hor cv p l) (cv, cn, m, uA, uB, pa, pb, dg, am)) (k : Nat) : k ≤ l.length → wX_multiplied_33 post p cv cn m uA uB pa pb dg am (k + 1) (kz_hor cv p (l.drop k)) (nI k - 1) := by
  induction k with
  | zero =>
    intro _
    exact br_t (by decide) h
  | succ k ih =>
    intro hk
    have t := ih (by omega)
    have e : l.drop k = l.getD k 0 :: l.drop (k + 1) := by
      rw [List.drop_eq_getElem_cons (show k < l.length by omega), List.getD_eq_getElem?_getD, List.getElem?_eq_getElem (show k < l.length by omega), Option.getD_some]
    rw [e] at t
    have ea : am (nI k).toNatClampNeg = l.getD k 0 := by rw [nI_clamp (by omega), ha k (by omega)]
    have t1 : wX_multiplied_33 post p cv cn m uA uB pa pb dg am (k + 1) (kz_hs cv p (l.getD k 0) (kz_sqd (kz_hor cv p (l.drop (k + 1))))) (nI k - 1) := t
    rw [nI_pred]
    refine br_f (nI_pos (by omega)) (kz_w_sqd ⟨pk_in k 40 (by omega), br_c (fun h1 => kz_w_sum (nm_r (kz_m1 _) ?_)) (fun h1 => ⟨pk_in k 40 (by omega), br_c (fun h2 => kz_w_min (kz_w_sum (nm_r (kz_m1 _) ?_))) (fun h2 => nm_r (kz_m1 _) ?_)⟩)⟩)
    · rw [ea] at h1
      rw [show ∀ y, kz_hs cv p (l.getD k 0) y = kz_sum cv y p from fun y => if_pos h1] at t1
      exact t1
    · rw [ea] at h1 h2
      rw [show ∀ y, kz_hs cv p (l.getD k 0) y = kz_sum cv y (kz_min p) from fun y => (if_neg h1).trans (if_pos h2)] at t1
      exact t1
    · rw [ea] at h1 h2
      rw [show ∀ y, kz_hs cv p (l.getD k 0) y = y from fun y => (if_neg h1).trans (if_neg h2)] at t1
      exact t1
theorem kz_w_mtp {post : Int32 → St1 → Prop} {cv cn m uA uB pa pb dg : Int32} {am : Nat → Int32} {k p : Int32} (hb : ¬ (2 * kz_nm m uA uB) = 0) (hc : ¬ cn ≤ 0) (hc0 : ¬ cn = 0) (h : ∀ (a' b' g' : Int32) (am' : Nat → Int32), post (kz_hor cv p (kz_dgs m uA uB (k - k / cn * cn))) (cv, cn, m, uA, uB, a', b', g', am')) : wpX_multiplied post (cv, cn, m, uA, uB, pa, pb, dg, am) k p := by
  refine br_f hc ⟨hc0, ?_⟩
  unfold wX_multiplied_18
  refine kz_w_rec hb (fun a' b' am' ha => nm_e ⟨(kz_dgs m uA uB (k - k / cn * cn)).length + 1, ?_⟩)
  have t := kz_w_33 (post := post) (p := p) (cv := cv) (cn := cn) (m := m) (uA := uA) (uB := uB) (pa := a') (pb := b') (dg := nI (kz_dgs m uA uB (k - k / cn * cn)).length) (am := am') (kz_dgs m uA uB (k - k / cn * cn)) (kz_rcd_len _ _ _ _) ha (h _ _ _ _) (kz_dgs m uA uB (k - k / cn * cn)).length (Nat.le_refl _)
  rw [List.drop_length] at t
  exact t
end
section
/-! finite checks -/
theorem kz_k_mul : ∀ x, x < 128 → ∀ y, y < 128 → kz_mul (nI x) (nI y) = nI (kz_mN x y) := by decide +kernel
theorem kz_k_inv : ∀ x, x < 128 → kz_inv (nI x) = nI (kz_iN x) := by decide +kernel
theorem kz_k_or : ∀ s, s < 128 → ∀ t, t < 128 → (nI s <<< ((7 : Int32) &&& 31)) ||| nI t = nI (s * 128 + t) := by decide +kernel
end
section
theorem kz_k_badT : ∀ j, j < 142 → kz_bad (nI (kz_c true)) (kz_P true j) = 0 := by decide +kernel
theorem kz_k_badF : ∀ j, j < 116 → kz_bad (nI (kz_c false)) (kz_P false j) = 0 := by decide +kernel
theorem kz_k_sqT : ∀ j, j < 142 → kz_sqd (kz_P true j) = kz_P true (103 * j) := by decide +kernel
theorem kz_k_sqF : ∀ j, j < 116 → kz_sqd (kz_P false j) = kz_P false (65 * j) := by decide +kernel
theorem kz_k_miT : ∀ j, j < 142 → kz_min (kz_P true j) = kz_P true (141 * j) := by decide +kernel
theorem kz_k_miF : ∀ j, j < 116 → kz_min (kz_P false j) = kz_P false (115 * j) := by decide +kernel
theorem kz_k_zT : ∀ j, j < 142 → kz_T true j = 16384 → j = 0 := by decide +kernel
theorem kz_k_zF : ∀ j, j < 116 → kz_T false j = 16384 → j = 0 := by decide +kernel
theorem kz_k_leT : ∀ j, j < 142 → kz_T true j ≤ 16384 := by decide +kernel
theorem kz_k_leF : ∀ j, j < 116 → kz_T false j ≤ 16384 := by decide +kernel
theorem kz_k_ET : ∀ k, k < 142 → kz_ev true (kz_dgs 1 (-11) 7 (nI k)) % 142 = k := by decide +kernel
theorem kz_k_EF : ∀ k, k < 116 → kz_ev false (kz_dgs (-1) 9 7 (nI k)) % 116 = k := by decide +kernel
theorem kz_k_fT : ∀ x, x < 128 → ¬ x = 0 → kz_trc (kz_rt 1 (nI x)) = 0 → (∃ j, j < 142 ∧ kz_p1 1 (nI x) = kz_P true j) ∧ (∃ j, j < 142 ∧ kz_p1 1 (nI x) ^^^ nI x = kz_P true j) := by decide +kernel
theorem kz_k_fF : ∀ x, x < 128 → ¬ x = 0 → kz_trc (kz_rt 0 (nI x)) = 0 → (∃ j, j < 116 ∧ kz_p1 0 (nI x) = kz_P false j) ∧ (∃ j, j < 116 ∧ kz_p1 0 (nI x) ^^^ nI x = kz_P false j) := by decide +kernel
end
section
theorem kz_k_suT : ∀ i, i < 142 → ∀ j, j < 142 → kz_smN true (kz_T true i) (kz_T true j) = kz_T true (i + j) := by decide +kernel
end
section
theorem kz_k_suF : ∀ i, i < 116 → ∀ j, j < 116 → kz_smN false (kz_T false i) (kz_T false j) = kz_T false (i + j) := by decide +kernel
end
section
/-! the int formulas over codes are the number formulas -/
theorem kz_xor (a b : Nat) : nI a ^^^ nI b = nI (a ^^^ b) := by
  apply Int32.toBitVec_inj.1
  show BitVec.ofNat 32 a ^^^ BitVec.ofNat 32 b = BitVec.ofNat 32 (a ^^^ b)
  apply BitVec.eq_of_getLsbD_eq
  intro i hi
  simp [hi]
theorem kz_x7 {a b : Nat} (ha : a < 128) (hb : b < 128) : a ^^^ b < 128 := Nat.xor_lt_two_pow (n := 7) ha hb
theorem kz_m7 (a b : Nat) : kz_mN a b < 128 := by
  unfold kz_mN
  split
  · decide
  · split
    · decide
    · exact Nat.mod_lt _ (by decide)
theorem kz_i7 (a : Nat) : kz_iN a < 128 := Nat.mod_lt _ (by decide)
theorem kz_c7 (c : Bool) : kz_c c < 128 := by cases c <;> decide
theorem kz_hi {p : Nat} (h : p < 16384) : nI p >>> ((7 : Int32) &&& 31) = nI (p / 128) := pk_shrN (by omega) _ 7 (by decide)
theorem kz_lo {p : Nat} (h : p < 16384) : nI p &&& 127 = nI (p % 128) := pk_andN (by omega) 7 (by decide)
theorem kz_xN {p q : Nat} (h : p < 16384) (h' : q < 16384) : p ^^^ q < 16384 := Nat.xor_lt_two_pow (n := 14) h h'
theorem kz_sl2E {p : Nat} (h : p < 16384) : kz_sl2 (nI p) = nI (kz_sl2N p) ∧ kz_sl2N p < 128 := by
  have h1 : p / 128 < 128 := by omega
  have h2 : p % 128 < 128 := Nat.mod_lt _ (by decide)
  refine ⟨?_, kz_x7 h1 (kz_m7 _ _)⟩
  unfold kz_sl2 kz_sl2N
  rw [kz_hi h, kz_lo h, kz_k_inv _ h1, kz_k_mul _ h2 _ (kz_i7 _), kz_xor]
theorem kz_s2E {c : Bool} {p : Nat} (h : p < 16384) : kz_s2 (nI (kz_c c)) (nI p) = nI (kz_s2N c p) ∧ kz_s2N c p < 128 := by
  obtain ⟨e, hs⟩ := kz_sl2E h
  refine ⟨?_, kz_x7 (kz_x7 (kz_m7 _ _) hs) (kz_c7 c)⟩
  unfold kz_s2 kz_s2N
  rw [e, kz_k_mul _ hs _ hs, kz_xor, kz_xor]
theorem kz_twE {c : Bool} {p : Nat} (h : p < 16384) : kz_twi (nI (kz_c c)) (nI p) = nI (kz_twN c p) := by
  have h1 : p / 128 < 128 := by omega
  obtain ⟨e1, b1⟩ := kz_sl2E h
  obtain ⟨e2, b2⟩ := kz_s2E (c := c) h
  unfold kz_twi kz_twN
  rw [if_neg (show ¬ nI p = 16384 from fun z => absurd ((nI_eq (b := 16384) (by omega) (by decide)).mp z) (by omega)), kz_hi h]
  by_cases z : p / 128 = 0
  · rw [if_pos z, if_pos (show nI (p / 128) = 0 from by rw [z]; rfl)]
    rfl
  · rw [if_neg z, if_neg (nI_ne0 (by omega) (by omega)), e2, e1, kz_k_mul _ h1 _ h1]
    rw [show nI (kz_sl2N p) ^^^ 1 = nI (kz_sl2N p ^^^ 1) from kz_xor _ 1, kz_k_mul _ (kz_x7 b1 (by decide)) _ b2, kz_xor]
    exact kz_k_or _ b2 _ (kz_x7 (kz_m7 _ _) (kz_m7 _ _))
theorem kz_slE {p q : Nat} (h : p < 16384) (h' : q < 16384) : kz_sl (nI p) (nI q) = nI (kz_slN p q) := by
  have h1 : p / 128 < 128 := by omega
  have h2 : q / 128 < 128 := by omega
  unfold kz_sl kz_slN
  rw [kz_hi h, kz_hi h', kz_xor, kz_xor, kz_lo (kz_xN h h'), kz_k_inv _ (kz_x7 h1 h2), kz_k_mul _ (Nat.mod_lt _ (by decide)) _ (kz_i7 _)]
theorem kz_s3E {c : Bool} {p q : Nat} (h : p < 16384) (h' : q < 16384) : kz_s3 (nI (kz_c c)) (nI p) (nI q) = nI (kz_s3N c p q) ∧ kz_s3N c p q < 128 := by
  have h1 : p / 128 < 128 := by omega
  have h2 : q / 128 < 128 := by omega
  have hs : kz_slN p q < 128 := kz_m7 _ _
  refine ⟨?_, kz_x7 (kz_x7 (kz_x7 (kz_x7 (kz_m7 _ _) hs) h1) h2) (kz_c7 c)⟩
  unfold kz_s3 kz_s3N
  rw [kz_slE h h', kz_k_mul _ hs _ hs, kz_hi h, kz_hi h', kz_xor, kz_xor, kz_xor, kz_xor]
theorem kz_chE {c : Bool} {p q : Nat} (h : p < 16384) (h' : q < 16384) : kz_chd (nI (kz_c c)) (nI p) (nI q) = nI (kz_chN c p q) := by
  have h1 : p / 128 < 128 := by omega
  have hs : kz_slN p q < 128 := kz_m7 _ _
  obtain ⟨e, b⟩ := kz_s3E (c := c) h h'
  unfold kz_chd kz_chN
  rw [e, kz_slE h h', kz_hi h, kz_lo h, kz_xor, kz_k_mul _ hs _ (kz_x7 h1 b), kz_xor, kz_xor]
  exact kz_k_or _ b _ (kz_x7 (kz_x7 (kz_m7 _ _) b) (Nat.mod_lt _ (by decide)))
theorem kz_16384 {p : Nat} (h : p ≤ 16384) : nI p = 16384 ↔ p = 16384 := nI_eq (b := 16384) (by omega) (by decide)
theorem kz_smE {c : Bool} {p q : Nat} (h : p ≤ 16384) (h' : q ≤ 16384) : kz_sum (nI (kz_c c)) (nI p) (nI q) = nI (kz_smN c p q) := by
  unfold kz_sum kz_smN
  by_cases z1 : p = 16384
  · rw [if_pos z1, if_pos ((kz_16384 h).mpr z1)]
  · rw [if_neg z1, if_neg (fun z => z1 ((kz_16384 h).mp z))]
    by_cases z2 : q = 16384
    · rw [if_pos z2, if_pos ((kz_16384 h').mpr z2)]
    · rw [if_neg z2, if_neg (fun z => z2 ((kz_16384 h').mp z))]
      have g : p < 16384 := by omega
      have g' : q < 16384 := by omega
      rw [kz_hi g, kz_hi g']
      have e : nI (p / 128) = nI (q / 128) ↔ p / 128 = q / 128 := nI_eq (by omega) (by omega)
      by_cases z3 : p / 128 = q / 128
      · rw [if_pos z3, if_pos (e.mpr z3)]
        have e' : nI p = nI q ↔ p = q := nI_eq (by omega) (by omega)
        by_cases z4 : p = q
        · rw [if_pos z4, if_pos (e'.mpr z4)]
          exact kz_twE g
        · rw [if_neg z4, if_neg (fun z => z4 (e'.mp z))]
          rfl
      · rw [if_neg z3, if_neg (fun z => z3 (e.mp z))]
        exact kz_chE g g'
/-! the picture's laws, at every number -/
theorem kz_n0 (c : Bool) : 0 < kz_n c := by cases c <;> decide
theorem kz_n1 (c : Bool) : 1 ≤ kz_n c := kz_n0 c
theorem kz_n142 (c : Bool) : kz_n c ≤ 142 := by cases c <;> decide
theorem kz_Tm (c : Bool) {i j : Nat} (h : i % kz_n c = j % kz_n c) : kz_T c i = kz_T c j := by
  unfold kz_T
  rw [h]
theorem kz_Pm (c : Bool) {i j : Nat} (h : i % kz_n c = j % kz_n c) : kz_P c i = kz_P c j := congrArg nI (kz_Tm c h)
theorem kz_Pr (c : Bool) (j : Nat) : kz_P c j = kz_P c (j % kz_n c) := kz_Pm c (Nat.mod_mod j _).symm
theorem kz_Tr (c : Bool) (j : Nat) : kz_T c j = kz_T c (j % kz_n c) := kz_Tm c (Nat.mod_mod j _).symm
theorem kz_P0 (c : Bool) : kz_P c 0 = 16384 := by cases c <;> decide +kernel
theorem kz_f_bad (c : Bool) (j : Nat) : kz_bad (nI (kz_c c)) (kz_P c j) = 0 := by
  rw [kz_Pr c j]
  have h := Nat.mod_lt j (kz_n0 c)
  revert h
  generalize j % kz_n c = i
  intro h
  cases c
  · exact kz_k_badF i h
  · exact kz_k_badT i h
theorem kz_f_sq (c : Bool) (j : Nat) : kz_sqd (kz_P c j) = kz_P c (kz_s c * j) := by
  rw [kz_Pm c (Nat.mul_mod_mod (kz_s c) j (kz_n c)).symm, kz_Pr c j]
  have h := Nat.mod_lt j (kz_n0 c)
  revert h
  generalize j % kz_n c = i
  intro h
  cases c
  · exact kz_k_sqF i h
  · exact kz_k_sqT i h
theorem kz_f_mi (c : Bool) (j : Nat) : kz_min (kz_P c j) = kz_P c ((kz_n c - 1) * j) := by
  rw [kz_Pm c (Nat.mul_mod_mod (kz_n c - 1) j (kz_n c)).symm, kz_Pr c j]
  have h := Nat.mod_lt j (kz_n0 c)
  revert h
  generalize j % kz_n c = i
  intro h
  cases c
  · exact kz_k_miF i h
  · exact kz_k_miT i h
theorem kz_f_le (c : Bool) (j : Nat) : kz_T c j ≤ 16384 := by
  rw [kz_Tr c j]
  have h := Nat.mod_lt j (kz_n0 c)
  revert h
  generalize j % kz_n c = i
  intro h
  cases c
  · exact kz_k_leF i h
  · exact kz_k_leT i h
theorem kz_f_z (c : Bool) (j : Nat) (e : kz_P c j = 16384) : j % kz_n c = 0 := by
  have e1 : kz_T c j = 16384 := (kz_16384 (kz_f_le c j)).mp e
  rw [kz_Tr c j] at e1
  have h := Nat.mod_lt j (kz_n0 c)
  revert h e1
  generalize j % kz_n c = i
  intro e1 h
  cases c
  · exact kz_k_zF i h e1
  · exact kz_k_zT i h e1
theorem kz_f_su (c : Bool) (i j : Nat) : kz_sum (nI (kz_c c)) (kz_P c i) (kz_P c j) = kz_P c (i + j) := by
  have e : (i % kz_n c + j % kz_n c) % kz_n c = (i + j) % kz_n c := (Nat.add_mod i j (kz_n c)).symm
  rw [← kz_Pm c e, kz_Pr c i, kz_Pr c j]
  have h := Nat.mod_lt i (kz_n0 c)
  have h' := Nat.mod_lt j (kz_n0 c)
  revert h h'
  generalize i % kz_n c = a
  generalize j % kz_n c = b
  intro h h'
  unfold kz_P
  rw [kz_smE (kz_f_le c a) (kz_f_le c b)]
  cases c
  · rw [kz_k_suF a h b h']
  · rw [kz_k_suT a h b h']
theorem kz_f_one (c : Bool) : ∃ j, kz_P c j = 1 := by
  cases c
  · exact ⟨58, by decide +kernel⟩
  · exact ⟨71, by decide +kernel⟩
theorem kz_f_fst (c : Bool) {x : Nat} (hx : x < 128) (h0 : ¬ x = 0) (ht : kz_trc (kz_rt (nI (kz_c c)) (nI x)) = 0) : (∃ j, kz_p1 (nI (kz_c c)) (nI x) = kz_P c j) ∧ (∃ j, kz_p1 (nI (kz_c c)) (nI x) ^^^ nI x = kz_P c j) := by
  cases c
  · obtain ⟨⟨j, _, e⟩, ⟨j', _, e'⟩⟩ := kz_k_fF x hx h0 ht
    exact ⟨⟨j, e⟩, ⟨j', e'⟩⟩
  · obtain ⟨⟨j, _, e⟩, ⟨j', _, e'⟩⟩ := kz_k_fT x hx h0 ht
    exact ⟨⟨j, e⟩, ⟨j', e'⟩⟩
theorem kz_f_E (c : Bool) {k : Nat} (hk : k < 2 ^ 31) : kz_E c (nI k) % kz_n c = k % kz_n c := by
  unfold kz_E
  have hn := kz_n142 c
  rw [pk_rem hk (kz_n0 c) (by omega)]
  have h := Nat.mod_lt k (kz_n0 c)
  revert h
  generalize k % kz_n c = i
  intro h
  cases c
  · exact kz_k_EF i h
  · exact kz_k_ET i h
theorem kz_f_hor (c : Bool) (i : Nat) (l : List Int32) : kz_hor (nI (kz_c c)) (kz_P c i) l = kz_P c (i * kz_ev c l) := by
  induction l with
  | nil =>
    show (16384 : Int32) = kz_P c (i * 0)
    rw [Nat.mul_zero, kz_P0]
  | cons d l ih =>
    show kz_hs (nI (kz_c c)) (kz_P c i) d (kz_sqd (kz_hor (nI (kz_c c)) (kz_P c i) l)) = _
    rw [ih, kz_f_sq]
    unfold kz_hs
    by_cases h1 : d = 1
    · rw [if_pos h1, kz_f_su, show kz_ev c (d :: l) = kz_s c * kz_ev c l + 1 from if_pos h1, Nat.mul_add, Nat.mul_one, Nat.mul_left_comm]
    · by_cases h2 : d = -1
      · rw [if_neg h1, if_pos h2, kz_f_mi, kz_f_su, show kz_ev c (d :: l) = kz_s c * kz_ev c l + (kz_n c - 1) from (if_neg h1).trans (if_pos h2), Nat.mul_add, Nat.mul_left_comm, Nat.mul_comm i (kz_n c - 1)]
      · rw [if_neg h1, if_neg h2, show kz_ev c (d :: l) = kz_s c * kz_ev c l from (if_neg h1).trans (if_neg h2), Nat.mul_left_comm]
end
section
/-! the methods at points of the picture -/
theorem kz_m_bad {post : Int32 → Prop} {c : Bool} {pa pb dg : Int32} {am : Nat → Int32} {i : Nat} (h : post 0) : wpX_bad post (nI (kz_c c), nI (kz_n c), kz_mm c, kz_ua c, 7, pa, pb, dg, am) (kz_P c i) := kz_w_bad (by rw [kz_f_bad]; exact h)
theorem kz_m_neg {post : Int32 → Prop} {c : Bool} {pa pb dg : Int32} {am : Nat → Int32} {i : Nat} (h : post (kz_P c ((kz_n c - 1) * i))) : wpX_negate post (nI (kz_c c), nI (kz_n c), kz_mm c, kz_ua c, 7, pa, pb, dg, am) (kz_P c i) := by
  unfold wpX_negate
  refine kz_m_bad (br_t rfl (kz_w_min ?_))
  rw [kz_f_mi]
  exact h
theorem kz_m_add {post : Int32 → Prop} {c : Bool} {pa pb dg : Int32} {am : Nat → Int32} {i j : Nat} (h : post (kz_P c (i + j))) : wpX_add post (nI (kz_c c), nI (kz_n c), kz_mm c, kz_ua c, 7, pa, pb, dg, am) (kz_P c i) (kz_P c j) := by
  unfold wpX_add
  refine kz_m_bad (br_t rfl (kz_m_bad (br_t rfl (kz_w_sum ?_))))
  rw [kz_f_su]
  exact h
theorem kz_m_sq {post : Int32 → Prop} {c : Bool} {pa pb dg : Int32} {am : Nat → Int32} {i : Nat} (h : post (kz_P c (kz_s c * i))) : wpX_square post (nI (kz_c c), nI (kz_n c), kz_mm c, kz_ua c, 7, pa, pb, dg, am) (kz_P c i) := by
  unfold wpX_square
  refine kz_m_bad (br_t rfl (kz_w_sqd ?_))
  rw [kz_f_sq]
  exact h
theorem kz_m_mtp {post : Int32 → St1 → Prop} {c : Bool} {pa pb dg : Int32} {am : Nat → Int32} {i : Nat} {k : Int32} (h : ∀ (a' b' g' : Int32) (am' : Nat → Int32), post (kz_P c (i * kz_E c k)) (nI (kz_c c), nI (kz_n c), kz_mm c, kz_ua c, 7, a', b', g', am')) : wpX_multiplied post (nI (kz_c c), nI (kz_n c), kz_mm c, kz_ua c, 7, pa, pb, dg, am) k (kz_P c i) := by
  refine kz_w_mtp (by cases c <;> decide) (by cases c <;> decide) (by cases c <;> decide) (fun a' b' g' am' => ?_)
  rw [kz_f_hor]
  exact h a' b' g' am'
theorem kz_m_bm {post : Int32 → Prop} {c : Bool} {pa pb dg : Int32} {am : Nat → Int32} {k : Int32} (h1 : ¬ k < (-1000000)) (h2 : k ≤ 1000000) (h : post 0) : wpX_badMultiplier post (nI (kz_c c), nI (kz_n c), kz_mm c, kz_ua c, 7, pa, pb, dg, am) k := br_f h1 (br_t h2 h)
theorem kz_m_mul {post : Int32 → St1 → Prop} {c : Bool} {pa pb dg : Int32} {am : Nat → Int32} {i : Nat} {k : Int32} (h1 : ¬ k < (-1000000)) (h2 : k ≤ 1000000) (h : ∀ (a' b' g' : Int32) (am' : Nat → Int32), post (kz_P c (i * kz_E c k)) (nI (kz_c c), nI (kz_n c), kz_mm c, kz_ua c, 7, a', b', g', am')) : wpX_multiple post (nI (kz_c c), nI (kz_n c), kz_mm c, kz_ua c, 7, pa, pb, dg, am) k (kz_P c i) := by
  unfold wpX_multiple
  refine kz_m_bad (br_t rfl (kz_m_bm h1 h2 (br_t rfl (kz_m_mtp ?_))))
  exact h
theorem kz_m_cmb {post : Int32 → St1 → Prop} {c : Bool} {pa pb dg : Int32} {am : Nat → Int32} {i j : Nat} {k l : Int32} (h1 : ¬ k < (-1000000)) (h2 : k ≤ 1000000) (h3 : ¬ l < (-1000000)) (h4 : l ≤ 1000000) (h : ∀ (a' b' g' : Int32) (am' : Nat → Int32), post (kz_P c (i * kz_E c k + j * kz_E c l)) (nI (kz_c c), nI (kz_n c), kz_mm c, kz_ua c, 7, a', b', g', am')) : wpX_combine post (nI (kz_c c), nI (kz_n c), kz_mm c, kz_ua c, 7, pa, pb, dg, am) k (kz_P c i) l (kz_P c j) := by
  unfold wpX_combine
  refine kz_m_bad (br_t rfl (kz_m_bad (br_t rfl (kz_m_bm h1 h2 (br_t rfl (kz_m_bm h3 h4 (br_t rfl ?_)))))))
  refine kz_m_mtp (fun _ _ _ _ => ?_)
  refine kz_m_mtp (fun a' b' g' am' => ?_)
  refine kz_w_sum ?_
  rw [kz_f_su]
  exact h a' b' g' am'
theorem kz_w_ord {post : Int32 → St1 → Prop} {c : Bool} {i : Nat} (H : ∀ d, 1 ≤ d → d ≤ kz_n c → kz_n c % d = 0 → (i * d) % kz_n c = 0 → ∀ (a' b' g' : Int32) (am' : Nat → Int32), post (nI d) (nI (kz_c c), nI (kz_n c), kz_mm c, kz_ua c, 7, a', b', g', am')) (n : Nat) : ∀ d, d + n = kz_n c + 1 → 1 ≤ d → ∀ (a' b' g' : Int32) (am' : Nat → Int32), wX_order_12 post (kz_P c i) (n + 1) (nI d) (nI (kz_c c)) (nI (kz_n c)) (kz_mm c) (kz_ua c) 7 a' b' g' am' := by
  have hn := kz_n142 c
  have hn1 := kz_n1 c
  induction n with
  | zero =>
    intro d hd h1 a' b' g' am'
    exact br_t (nI_lt (by omega) (by omega)) (H (kz_n c) hn1 (Nat.le_refl _) (Nat.mod_self _) (Nat.mul_mod_left _ _) a' b' g' am')
  | succ n ih =>
    intro d hd h1 a' b' g' am'
    refine br_f (nI_nlt (by omega) (by omega)) (br_f (nI_ge (b := 200) (by omega) (by decide)) ⟨nI_ne0 (by omega) (by omega), ?_⟩)
    rw [pk_rem (a := kz_n c) (d := d) (by omega) (by omega) (by omega)]
    refine pk_eq (kz_n c % d) 0 (fun z => ?_) (fun z => nm_r (nI_1 d) (ih (d + 1) (by omega) (by omega) a' b' g' am')) rfl rfl (Nat.lt_of_le_of_lt (Nat.mod_le _ _) (by omega)) (by decide)
    refine kz_m_mtp (fun a' b' g' am' => br_c (fun e => ?_) (fun _ => nm_r (nI_1 d) (ih (d + 1) (by omega) (by omega) a' b' g' am')))
    have t := kz_f_z c _ e
    rw [Nat.mul_mod, kz_f_E c (by omega), ← Nat.mul_mod] at t
    exact H d h1 (by omega) z t a' b' g' am'
theorem kz_m_ord {post : Int32 → St1 → Prop} {c : Bool} {pa pb dg : Int32} {am : Nat → Int32} {i : Nat} (H : ∀ d, 1 ≤ d → d ≤ kz_n c → kz_n c % d = 0 → (i * d) % kz_n c = 0 → ∀ (a' b' g' : Int32) (am' : Nat → Int32), post (nI d) (nI (kz_c c), nI (kz_n c), kz_mm c, kz_ua c, 7, a', b', g', am')) : wpX_order post (nI (kz_c c), nI (kz_n c), kz_mm c, kz_ua c, 7, pa, pb, dg, am) (kz_P c i) := by
  unfold wpX_order
  exact kz_m_bad (br_t rfl ⟨kz_n c + 1, kz_w_ord H (kz_n c) 1 (by omega) (by omega) pa pb dg am⟩)
theorem kz_w_nx {post : Int32 → Prop} {c : Bool} {pa pb dg : Int32} {am : Nat → Int32} {st : Int32} (H : ∀ j, post (kz_P c j)) (n : Nat) : ∀ x, x + n = 128 → wX_next_25 post st (nI (kz_c c)) (nI (kz_n c)) (kz_mm c) (kz_ua c) 7 pa pb dg am (n + 1) (nI x) := by
  induction n with
  | zero =>
    intro x hx
    have e : x = 128 := by omega
    subst e
    have t := H 0
    rw [kz_P0] at t
    exact br_t (by decide) t
  | succ n ih =>
    intro x hx
    have g : ∀ j, (kz_P c j < 0 → (∀ x3_7 : Int32, x3_7 = nI x + 1 → wX_next_25 post st (nI (kz_c c)) (nI (kz_n c)) (kz_mm c) (kz_ua c) 7 pa pb dg am (n + 1) x3_7)) ∧ (¬ kz_P c j < 0 → post (kz_P c j)) := fun j => br_f (nI_pos (by have := kz_f_le c j; omega)) (H j)
    refine br_f (nI_ge (b := 128) (by omega) (by decide)) (kz_w_fst (br_t (by decide) (nm_r (nI_1 x) (ih (x + 1) (by omega)))) (fun _ => ?_) (fun h0 ht => ?_))
    · obtain ⟨j, e⟩ := kz_f_one c
      have t := g j
      rw [e] at t
      exact t
    · have hx0 : ¬ x = 0 := fun z => h0 (by rw [z]; rfl)
      obtain ⟨⟨j, e⟩, ⟨j', e'⟩⟩ := kz_f_fst c (show x < 128 by omega) hx0 ht
      have t := g j
      have t' := g j'
      rw [← e] at t
      rw [← e'] at t'
      exact ⟨t, t'⟩
theorem kz_m_nx {post : Int32 → Prop} {c : Bool} {pa pb dg : Int32} {am : Nat → Int32} {f : Nat} (hf : f < 16384) (H : ∀ j, post (kz_P c j)) : wpX_next post (nI (kz_c c), nI (kz_n c), kz_mm c, kz_ua c, 7, pa, pb, dg, am) (nI f) :=
  br_t (nI_le (b := 16384) (by omega) (by decide)) (br_t (nI_pos' (by omega)) (nm_r (kz_hi hf) ⟨128 - f / 128 + 1, kz_w_nx H _ (f / 128) (by omega)⟩))
theorem kz_m_pt {post : Int32 → Prop} {c : Bool} {pa pb dg : Int32} {am : Nat → Int32} {x : Int32} (H : ∀ j, post (kz_P c j)) : wpL_point post (nI (kz_c c), nI (kz_n c), kz_mm c, kz_ua c, 7, pa, pb, dg, am) x := by
  obtain ⟨f, hf, e⟩ := pk_andE x (m := 16383) 14 (by decide)
  have t : ∀ q : Int32 → Prop, (∀ j, q (kz_P c j)) → wpX_next q (nI (kz_c c), nI (kz_n c), kz_mm c, kz_ua c, 7, pa, pb, dg, am) (x &&& 16383) := fun q hq => by
    rw [e]
    exact kz_m_nx hf hq
  exact t _ (fun j => br_c (fun _ => br_c (fun _ => kz_m_nx (f := 0) (by decide) H) (fun _ => H j)) (fun _ => H j))
/-! the plain laws behind the checks -/
theorem kz_l_rest {n i d k e1 e2 : Nat} (hd : (i * d) % n = 0) (h1 : e1 % n = k % n) (h2 : e2 % n = (k % d) % n) : (i * e1) % n = (i * e2) % n := by
  have a1 : (i * e1) % n = (i * k) % n := by rw [Nat.mul_mod, h1, ← Nat.mul_mod]
  have a2 : (i * e2) % n = (i * (k % d)) % n := by rw [Nat.mul_mod, h2, ← Nat.mul_mod]
  have a3 : i * k = i * (k % d) + (i * d) * (k / d) := by
    rw [Nat.mul_assoc, ← Nat.mul_add, Nat.mod_add_div]
  have a4 : ((i * d) * (k / d)) % n = 0 := by rw [Nat.mul_mod, hd, Nat.zero_mul, Nat.zero_mod]
  rw [a1, a2, a3, Nat.add_mod, a4, Nat.add_zero, Nat.mod_mod]
theorem kz_l_neg (c : Bool) (i : Nat) : kz_P c (i + (kz_n c - 1) * i) = 16384 := by
  rw [← kz_P0 c]
  apply kz_Pm
  have h := kz_n1 c
  have e : i + (kz_n c - 1) * i = kz_n c * i := by
    rw [Nat.sub_mul, Nat.one_mul]
    have : i ≤ kz_n c * i := Nat.le_mul_of_pos_left i (kz_n0 c)
    omega
  rw [e, Nat.mul_mod_right, Nat.zero_mod]
theorem kz_l_char (c : Bool) (i : Nat) : kz_P c (kz_s c * (kz_s c * i) + i * kz_E c 2) = kz_P c (kz_s c * i) ∨ kz_P c (kz_s c * (kz_s c * i) + i * kz_E c 2) = kz_P c ((kz_n c - 1) * (kz_s c * i)) := by
  have e2 : kz_E c 2 % kz_n c = 2 % kz_n c := kz_f_E c (k := 2) (by decide)
  have e3 : (kz_s c * (kz_s c * i) + i * kz_E c 2) % kz_n c = (kz_s c * (kz_s c * i) + i * 2) % kz_n c := by
    rw [Nat.add_mod, Nat.mul_mod i, e2, ← Nat.mul_mod, ← Nat.add_mod]
  cases c
  · refine Or.inr (kz_Pm false (e3.trans ?_))
    show (65 * (65 * i) + i * 2) % 116 = (115 * (65 * i)) % 116
    omega
  · refine Or.inl (kz_Pm true (e3.trans ?_))
    show (103 * (103 * i) + i * 2) % 142 = (103 * i) % 142
    omega
theorem kz_kk {k : Nat} (h : k ≤ 1000000) : ¬ nI k < (-1000000) ∧ nI k ≤ 1000000 := by
  refine ⟨?_, nI_le (b := 1000000) h (by decide)⟩
  rw [Int32.lt_iff_toInt_lt, nI_toInt (by omega), show (-1000000 : Int32).toInt = -1000000 by decide]
  omega
theorem kz_kn {k : Nat} (h : k ≤ 1000000) : ¬ -nI k < (-1000000) ∧ -nI k ≤ 1000000 := by
  rw [Int32.lt_iff_toInt_lt, Int32.le_iff_toInt_le, sb_negT (by omega), show (-1000000 : Int32).toInt = -1000000 by decide, show (1000000 : Int32).toInt = 1000000 by decide]
  omega
end
section
theorem kz_w_99 {post : Int32 → Prop} {L : Nat} {xs : Nat → Int32} {J : Int32 → Int32 → Int32 → Int32 → Int32 → Int32 → Int32 → Int32 → Int32 → (Nat → Int32) → Prop} {c : Bool} {pa pb dg : Int32} {am : Nat → Int32} {i j k t kc ks : Nat} {l : Int32} (hk : k ≤ 1000000) (hl1 : ¬ l < (-1000000)) (hl2 : l ≤ 1000000) (hJ : ∀ (a' b' g' : Int32) (am' : Nat → Int32), J (nI (t + 4)) (nI (kz_c c)) (nI (kz_n c)) (kz_mm c) (kz_ua c) 7 a' b' g' am') :
    wL_law_99 post L xs J (nI (kz_n c)) (nI t) (kz_P c i) (kz_P c j) (nI k) l kc ks (nI (kz_c c)) (nI (kz_n c)) (kz_mm c) (kz_ua c) 7 pa pb dg am := by
  have hn := kz_n142 c
  unfold wL_law_99
  refine kz_m_neg (kz_m_ord (fun d d1 d2 d3 d4 a1 b1 g1 m1 => ?_))
  have hd0 : ¬ nI d = 0 := nI_ne0 (by omega) (by omega)
  have hkd : k % d ≤ 1000000 := Nat.le_trans (Nat.mod_le k d) hk
  have er : nI k - nI k / nI d * nI d = nI (k % d) := pk_rem (by omega) (by omega) (by omega)
  have en : nI (kz_n c) - nI (kz_n c) / nI d * nI d = 0 := by
    rw [pk_rem (by omega) (by omega) (by omega), d3]
    rfl
  have ef : kz_P c (i * kz_E c (nI k)) = kz_P c (i * kz_E c (nI (k % d))) := kz_Pm c (kz_l_rest d4 (kz_f_E c (by omega)) (kz_f_E c (by omega)))
  refine kz_m_mul (kz_kk hk).1 (kz_kk hk).2 (fun a2 b2 g2 m2 => ⟨hd0, ?_⟩)
  dsimp only
  rw [er]
  refine kz_m_mul (kz_kk hkd).1 (kz_kk hkd).2 (fun a3 b3 g3 m3 => ?_)
  refine kz_m_mul hl1 hl2 (fun a4 b4 g4 m4 => ?_)
  refine kz_m_add (kz_m_add (br_t (kz_l_neg c i) (br_t ef (kz_m_cmb (kz_kk hk).1 (kz_kk hk).2 hl1 hl2 (fun a5 b5 g5 m5 => br_t rfl ⟨hd0, br_t en ?_⟩)))))
  refine kz_m_sq (kz_m_sq (kz_m_mul (k := 2) (by decide) (by decide) (fun a6 b6 g6 m6 => kz_m_add (kz_m_neg ?_))))
  have e4 : nI t + 4 = nI (t + 4) := nI_add t 4
  rcases kz_l_char c i with z | z
  · exact br_t z (nm_r e4 (hJ _ _ _ _))
  · exact br_c (fun _ => nm_r e4 (hJ _ _ _ _)) (fun _ => br_t z (nm_r e4 (hJ _ _ _ _)))
theorem kz_w_29 {L : Nat} (hL : L ≤ 260) {xs : Nat → Int32} {c : Bool} {kc ks : Nat} (n : Nat) : ∀ t, L + 4 ≤ t + n → t ≤ 300 → ∀ (a' b' g' : Int32) (am' : Nat → Int32), wL_law_29 (fun r => r = 1) L xs (nI (kz_n c)) kc ks (n + 1) (nI t) (nI (kz_c c)) (nI (kz_n c)) (kz_mm c) (kz_ua c) 7 a' b' g' am' := by
  have fin : ∀ t, L ≤ t + 3 → t ≤ 300 → ∀ n, ∀ (a' b' g' : Int32) (am' : Nat → Int32), wL_law_29 (fun r => r = 1) L xs (nI (kz_n c)) kc ks (n + 1) (nI t) (nI (kz_c c)) (nI (kz_n c)) (kz_mm c) (kz_ua c) 7 a' b' g' am' := by
    intro t h ht n a' b' g' am'
    have e3 : nI t + 3 = nI (t + 3) := nI_add t 3
    exact br_t (by rw [e3]; exact nI_le h (by omega)) (by unfold wpX_isPoint; exact kz_w_bad (br_t rfl (br_f (by decide) (br_f (by decide) (br_t rfl rfl)))))
  induction n with
  | zero =>
    intro t h ht a' b' g' am'
    exact fin t (by omega) ht 0 a' b' g' am'
  | succ n ih =>
    intro t h ht a' b' g' am'
    by_cases hc : L ≤ t + 3
    · exact fin t hc ht (n + 1) a' b' g' am'
    · have e1 : nI t + 1 = nI (t + 1) := nI_1 t
      have e2 : nI t + 2 = nI (t + 2) := nI_add t 2
      have e3 : nI t + 3 = nI (t + 3) := nI_add t 3
      obtain ⟨k, hk, ek⟩ := pk_andE (xs (nI t + 2).toNatClampNeg) (m := 1048575) 20 (by decide)
      obtain ⟨z, hz, ez⟩ := pk_andE (xs (nI t + 3).toNatClampNeg) (m := 1048575) 20 (by decide)
      have rk : nI k - nI k / 1000001 * 1000001 = nI (k % 1000001) := pk_rem (d := 1000001) (by omega) (by decide) (by decide)
      have rz : nI z - nI z / 1000001 * 1000001 = nI (z % 1000001) := pk_rem (d := 1000001) (by omega) (by decide) (by decide)
      have bk : k % 1000001 ≤ 1000000 := by omega
      have bz : z % 1000001 ≤ 1000000 := by omega
      have v0 : vp_in (nI t) L := vp_in_nI (by omega) (by omega)
      have v1 : vp_in (nI t + 1) L := by rw [e1]; exact vp_in_nI (by omega) (by omega)
      have v2 : vp_in (nI t + 2) L := by rw [e2]; exact vp_in_nI (by omega) (by omega)
      have v3 : vp_in (nI t + 3) L := by rw [e3]; exact vp_in_nI (by omega) (by omega)
      have hJ : ∀ (a' b' g' : Int32) (am' : Nat → Int32), wL_law_29 (fun r => r = 1) L xs (nI (kz_n c)) kc ks (n + 1) (nI (t + 4)) (nI (kz_c c)) (nI (kz_n c)) (kz_mm c) (kz_ua c) 7 a' b' g' am' := ih (t + 4) (by omega) (by omega)
      refine br_f (by rw [e3]; exact nI_ge (by omega) (by omega)) ⟨v0, kz_m_pt (fun i => ⟨v1, kz_m_pt (fun j => ⟨v2, by decide, nm_r (e' := nI (k % 1000001)) (by rw [ek]; exact rk) ⟨v3, by decide, nm_r (e' := nI (z % 1000001)) (by rw [ez]; exact rz) ⟨v3, ?_⟩⟩⟩)⟩)⟩
      exact br_c (fun _ => kz_w_99 bk (kz_kk bz).1 (kz_kk bz).2 hJ) (fun _ => kz_w_99 bk (kz_kn bz).1 (kz_kn bz).2 hJ)
theorem kz_w_i50 {post : St1 → Prop} {mc ms kc ks : Nat} {sg cv cn m uA uB pa pb dg : Int32} {am : Nat → Int32} {n : Nat} {u v : Int32} {i : Nat} (hi : i < 7) (h : wX_init_50 post mc ms sg kc ks cv cn m uA uB pa pb dg am n ((-2) * v) (u + (sg * v)) (nI (i + 1))) : wX_init_50 post mc ms sg kc ks cv cn m uA uB pa pb dg am (n + 1) u v (nI i) :=
  br_f (nI_ge (b := 7) hi (by decide)) (nm_e (nm_e (nm_r (nI_1 i) h)))
theorem kz_w_18 {L : Nat} (hL : L ≤ 260) {xs : Nat → Int32} {z : Int32} (hz : z = 0 ∨ z = 1) : wL_law_18 (fun r => r = 1) L xs z 1 9 0 0 0 0 0 0 0 0 := by
  refine ⟨1, 40, by decide, by decide, by decide, by decide, ?_⟩
  have fin : ∀ (c : Bool), ∃ fu29 : Nat, wL_law_29 (fun r => r = 1) L xs (nI (kz_n c)) (1 + 1) (9 + 40) fu29 1 (nI (kz_c c)) (nI (kz_n c)) (kz_mm c) (kz_ua c) 7 0 0 0 (fun _ => 0) := fun c => ⟨L + 4 + 1, kz_w_29 hL (L + 4) 1 (by omega) (by decide) 0 0 0 (fun _ => 0)⟩
  rcases hz with e | e
  · subst e
    refine br_f (by decide) (br_f (by decide) ⟨8, ?_⟩)
    refine kz_w_i50 (i := 0) (by decide) (kz_w_i50 (by decide) (kz_w_i50 (by decide) (kz_w_i50 (by decide) (kz_w_i50 (by decide) (kz_w_i50 (by decide) (kz_w_i50 (by decide) (br_t (by decide) (nm_r (e' := 9) (by decide) (nm_r (e' := 116) (by decide) ?_)))))))))
    exact fin false
  · subst e
    refine br_t (by decide) (br_t (by decide) ⟨8, ?_⟩)
    refine kz_w_i50 (i := 0) (by decide) (kz_w_i50 (by decide) (kz_w_i50 (by decide) (kz_w_i50 (by decide) (kz_w_i50 (by decide) (kz_w_i50 (by decide) (kz_w_i50 (by decide) (br_t (by decide) (nm_r (e' := -11) (by decide) (nm_r (e' := 142) (by decide) ?_)))))))))
    exact fin true
theorem i_vc (xs : Nat → Int32) (L : Nat) (hL : L ≤ 260) : wpL_law (fun r => r = 1) L xs := by
  refine br_c (fun _ => kz_w_18 hL (Or.inl rfl)) (fun h => ⟨?_, kz_w_18 hL ?_⟩)
  · have h' : 0 < L := by
      rcases Nat.eq_zero_or_pos L with z | z
      · exact absurd (by rw [z]; decide) h
      · exact z
    exact vp_in_nI (n := 0) h' (by omega)
  · obtain ⟨j, hj, e⟩ := pk_andE (xs (0 : Int32).toNatClampNeg) (m := 1) 1 (by decide)
    rw [e]
    have : j = 0 ∨ j = 1 := by omega
    rcases this with z | z
    · exact Or.inl (by rw [z]; rfl)
    · exact Or.inr (by rw [z]; rfl)
end
