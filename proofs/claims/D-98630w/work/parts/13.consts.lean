/-! constants of the code, and what a call asks of a name -/
set_option maxRecDepth 100000
theorem kb_m128 : (Int8.ofInt (-128)).toInt32 = (-128) := by decide
theorem kb_m8 : (Int8.ofInt (-8)).toInt32 = (-8) := by decide
theorem kb_m7 : (Int8.ofInt (-7)).toInt32 = (-7) := by decide
theorem kb_m6 : (Int8.ofInt (-6)).toInt32 = (-6) := by decide
theorem kb_m5 : (Int8.ofInt (-5)).toInt32 = (-5) := by decide
theorem kb_m4 : (Int8.ofInt (-4)).toInt32 = (-4) := by decide
theorem kb_m3 : (Int8.ofInt (-3)).toInt32 = (-3) := by decide
theorem kb_m2 : (Int8.ofInt (-2)).toInt32 = (-2) := by decide
theorem kb_6 : (Int8.ofInt (6)).toInt32 = 6 := by decide
theorem kb_7 : (Int8.ofInt (7)).toInt32 = 7 := by decide
theorem kb_8 : (Int8.ofInt (8)).toInt32 = 8 := by decide
theorem kb_9 : (Int8.ofInt (9)).toInt32 = 9 := by decide
theorem kb_10 : (Int8.ofInt (10)).toInt32 = 10 := by decide
theorem kb_11 : (Int8.ofInt (11)).toInt32 = 11 := by decide
theorem kb_12 : (Int8.ofInt (12)).toInt32 = 12 := by decide
theorem kb_13 : (Int8.ofInt (13)).toInt32 = 13 := by decide
theorem kb_16 : (Int8.ofInt (16)).toInt32 = 16 := by decide
theorem kb_20 : (Int8.ofInt (20)).toInt32 = 20 := by decide
theorem kb_24 : (Int8.ofInt (24)).toInt32 = 24 := by decide
theorem kb_30 : (Int8.ofInt (30)).toInt32 = 30 := by decide
theorem kb_31 : (Int8.ofInt (31)).toInt32 = 31 := by decide
theorem kb_32 : (Int8.ofInt (32)).toInt32 = 32 := by decide
theorem kb_48 : (Int8.ofInt (48)).toInt32 = 48 := by decide
theorem kb_57 : (Int8.ofInt (57)).toInt32 = 57 := by decide
theorem kb_59 : (Int8.ofInt (59)).toInt32 = 59 := by decide
theorem kb_60 : (Int8.ofInt (60)).toInt32 = 60 := by decide
theorem kb_61 : (Int8.ofInt (61)).toInt32 = 61 := by decide
theorem kb_63 : (Int8.ofInt (63)).toInt32 = 63 := by decide
theorem kb_64 : (Int8.ofInt (64)).toInt32 = 64 := by decide
theorem kb_67 : (Int8.ofInt (67)).toInt32 = 67 := by decide
theorem kb_75 : (Int8.ofInt (75)).toInt32 = 75 := by decide
theorem kb_97 : (Int8.ofInt (97)).toInt32 = 97 := by decide
theorem kb_99 : (Int8.ofInt (99)).toInt32 = 99 := by decide
theorem kb_100 : (Int8.ofInt (100)).toInt32 = 100 := by decide
theorem kb_107 : (Int8.ofInt (107)).toInt32 = 107 := by decide
theorem kb_115 : (Int8.ofInt (115)).toInt32 = 115 := by decide
theorem kb_120 : (Int8.ofInt (120)).toInt32 = 120 := by decide
theorem kb_122 : (Int8.ofInt (122)).toInt32 = 122 := by decide
theorem kb_127 : (Int8.ofInt (127)).toInt32 = 127 := by decide
theorem ki_m1 : Int32.ofInt (-1) = (-1) := by decide
theorem ki_0 : Int32.ofInt (0) = 0 := by decide
theorem ki_1 : Int32.ofInt (1) = 1 := by decide
theorem ki_2 : Int32.ofInt (2) = 2 := by decide
theorem ki_3 : Int32.ofInt (3) = 3 := by decide
theorem ki_4 : Int32.ofInt (4) = 4 := by decide
theorem ki_5 : Int32.ofInt (5) = 5 := by decide
theorem ki_6 : Int32.ofInt (6) = 6 := by decide
theorem kl_0 : Int64.ofNat (((0 : Fin 2) : Nat)) = 0 := by decide
theorem kl_1 : Int64.ofNat (((1 : Fin 2) : Nat)) = 1 := by decide
theorem ks_m1000 : (Int16.ofInt (-1000)).toInt32 = (-1000) := by decide
theorem ks_128 : (Int16.ofInt (128)).toInt32 = 128 := by decide
theorem ks_240 : (Int16.ofInt (240)).toInt32 = 240 := by decide
theorem ks_255 : (Int16.ofInt (255)).toInt32 = 255 := by decide
theorem ks_512 : (Int16.ofInt (512)).toInt32 = 512 := by decide
theorem ks_513 : (Int16.ofInt (513)).toInt32 = 513 := by decide
theorem ks_720 : (Int16.ofInt (720)).toInt32 = 720 := by decide
theorem ks_999 : (Int16.ofInt (999)).toInt32 = 999 := by decide
theorem ks_1200 : (Int16.ofInt (1200)).toInt32 = 1200 := by decide
theorem ks_10000 : (Int16.ofInt (10000)).toInt32 = 10000 := by decide
theorem nJ0_init : zpl yJ0_init 0 := by unfold zpl; decide +kernel
theorem nJ1_init : zpl yJ1_init 0 := by unfold zpl; decide +kernel
theorem nJ10_init : zpl yJ10_init 1 := by unfold zpl; decide +kernel
theorem nJ10_init_2 : zpl yJ10_init_2 0 := by unfold zpl; decide +kernel
theorem nJ10_init_3 : zpl yJ10_init_3 4 := by unfold zpl; decide +kernel
theorem nJ11_hugeLength : zpl yJ11_hugeLength 2 := by unfold zpl; decide +kernel
theorem nJ11_newLength : zpl yJ11_newLength 3 := by unfold zpl; decide +kernel
theorem nJ12_copyOf : zpl yJ12_copyOf 2 := by unfold zpl; decide +kernel
theorem nJ12_copyOf_2 : zpl yJ12_copyOf_2 3 := by unfold zpl; decide +kernel
theorem nJ13_init : zpl yJ13_init 0 := by unfold zpl; decide +kernel
theorem nJ14_bitCount : zpl yJ14_bitCount 1 := by unfold zpl; decide +kernel
theorem nJ14_compare : zpl yJ14_compare 2 := by unfold zpl; decide +kernel
theorem nJ14_init : zpl yJ14_init 1 := by unfold zpl; decide +kernel
theorem nJ14_intValue : zpl yJ14_intValue 0 := by unfold zpl; decide +kernel
theorem nJ14_signum : zpl yJ14_signum 1 := by unfold zpl; decide +kernel
theorem nJ14_valueOf : zpl yJ14_valueOf 1 := by unfold zpl; decide +kernel
theorem nJ15_checkIndex : zpl yJ15_checkIndex 2 := by unfold zpl; decide +kernel
theorem nJ16_checkForComodification : zpl yJ16_checkForComodification 0 := by unfold zpl; decide +kernel
theorem nJ16_hasNext : zpl yJ16_hasNext 0 := by unfold zpl; decide +kernel
theorem nJ16_init : zpl yJ16_init 1 := by unfold zpl; decide +kernel
theorem nJ16_next : zpl yJ16_next 0 := by unfold zpl; decide +kernel
theorem nJ17_init : zpl yJ17_init 1 := by unfold zpl; decide +kernel
theorem nJ18_init : zpl yJ18_init 0 := by unfold zpl; decide +kernel
theorem nJ19_init : zpl yJ19_init 1 := by unfold zpl; decide +kernel
theorem nJ2_add : zpl yJ2_add 1 := by unfold zpl; decide +kernel
theorem nJ2_addAll : zpl yJ2_addAll 1 := by unfold zpl; decide +kernel
theorem nJ2_add_2 : zpl yJ2_add_2 3 := by unfold zpl; decide +kernel
theorem nJ2_elementData : zpl yJ2_elementData 1 := by unfold zpl; decide +kernel
theorem nJ2_fastRemove : zpl yJ2_fastRemove 2 := by unfold zpl; decide +kernel
theorem nJ2_get : zpl yJ2_get 1 := by unfold zpl; decide +kernel
theorem nJ2_grow : zpl yJ2_grow 0 := by unfold zpl; decide +kernel
theorem nJ2_grow_2 : zpl yJ2_grow_2 1 := by unfold zpl; decide +kernel
theorem nJ2_init : zpl yJ2_init 1 := by unfold zpl; decide +kernel
theorem nJ2_init_2 : zpl yJ2_init_2 0 := by unfold zpl; decide +kernel
theorem nJ2_iterator : zpl yJ2_iterator 0 := by unfold zpl; decide +kernel
theorem nJ2_remove : zpl yJ2_remove 1 := by unfold zpl; decide +kernel
theorem nJ2_size : zpl yJ2_size 0 := by unfold zpl; decide +kernel
theorem nJ2_toArray : zpl yJ2_toArray 0 := by unfold zpl; decide +kernel
theorem nJ20_init : zpl yJ20_init 1 := by unfold zpl; decide +kernel
theorem nJ21_init : zpl yJ21_init 1 := by unfold zpl; decide +kernel
theorem nJ22_init : zpl yJ22_init 0 := by unfold zpl; decide +kernel
theorem nJ3_abs : zpl yJ3_abs 1 := by unfold zpl; decide +kernel
theorem nJ3_max : zpl yJ3_max 2 := by unfold zpl; decide +kernel
theorem nJ3_min : zpl yJ3_min 2 := by unfold zpl; decide +kernel
theorem nJ4_charAt : zpl yJ4_charAt 1 := by unfold zpl; decide +kernel
theorem nJ4_checkIndex : zpl yJ4_checkIndex 2 := by unfold zpl; decide +kernel
theorem nJ4_coder : zpl yJ4_coder 0 := by unfold zpl; decide +kernel
theorem nJ4_isLatin1 : zpl yJ4_isLatin1 0 := by unfold zpl; decide +kernel
theorem nJ4_length : zpl yJ4_length 0 := by unfold zpl; decide +kernel
theorem nJ5_charAt : zpl yJ5_charAt 2 := by unfold zpl; decide +kernel
theorem nJ6_checkIndex : zpl yJ6_checkIndex 3 := by unfold zpl; decide +kernel
theorem nJ7_charAt : zpl yJ7_charAt 2 := by unfold zpl; decide +kernel
theorem nJ7_checkIndex : zpl yJ7_checkIndex 2 := by unfold zpl; decide +kernel
theorem nJ7_getChar : zpl yJ7_getChar 2 := by unfold zpl; decide +kernel
theorem nJ7_length : zpl yJ7_length 1 := by unfold zpl; decide +kernel
theorem nJ8_init : zpl yJ8_init 1 := by unfold zpl; decide +kernel
theorem nJ8_init_2 : zpl yJ8_init_2 0 := by unfold zpl; decide +kernel
theorem nJ8_init_3 : zpl yJ8_init_3 4 := by unfold zpl; decide +kernel
theorem nJ9_init : zpl yJ9_init 1 := by unfold zpl; decide +kernel
theorem nJ9_init_2 : zpl yJ9_init_2 0 := by unfold zpl; decide +kernel
theorem nJ9_init_3 : zpl yJ9_init_3 4 := by unfold zpl; decide +kernel
theorem nX0_answer : zpl yX0_answer 2 := by unfold zpl; decide +kernel
theorem nX0_areApart : zpl yX0_areApart 1 := by unfold zpl; decide +kernel
theorem nX0_areHalves : zpl yX0_areHalves 1 := by unfold zpl; decide +kernel
theorem nX0_areHands : zpl yX0_areHands 2 := by unfold zpl; decide +kernel
theorem nX0_back : zpl yX0_back 1 := by unfold zpl; decide +kernel
theorem nX0_bribe : zpl yX0_bribe 1 := by unfold zpl; decide +kernel
theorem nX0_bribeBut : zpl yX0_bribeBut 2 := by unfold zpl; decide +kernel
theorem nX0_bribed : zpl yX0_bribed 1 := by unfold zpl; decide +kernel
theorem nX0_by : zpl yX0_by 1 := by unfold zpl; decide +kernel
theorem nX0_cannon : zpl yX0_cannon 2 := by unfold zpl; decide +kernel
theorem nX0_chance : zpl yX0_chance 2 := by unfold zpl; decide +kernel
theorem nX0_changes : zpl yX0_changes 3 := by unfold zpl; decide +kernel
theorem nX0_close : zpl yX0_close 1 := by unfold zpl; decide +kernel
theorem nX0_closed : zpl yX0_closed 1 := by unfold zpl; decide +kernel
theorem nX0_closedOf : zpl yX0_closedOf 1 := by unfold zpl; decide +kernel
theorem nX0_comes : zpl yX0_comes 2 := by unfold zpl; decide +kernel
theorem nX0_common : zpl yX0_common 2 := by unfold zpl; decide +kernel
theorem nX0_count : zpl yX0_count 1 := by unfold zpl; decide +kernel
theorem nX0_delaysOf : zpl yX0_delaysOf 1 := by unfold zpl; decide +kernel
theorem nX0_draw : zpl yX0_draw 0 := by unfold zpl; decide +kernel
theorem nX0_drawn : zpl yX0_drawn 2 := by unfold zpl; decide +kernel
theorem nX0_dry : zpl yX0_dry 3 := by unfold zpl; decide +kernel
theorem nX0_end : zpl yX0_end 1 := by unfold zpl; decide +kernel
theorem nX0_enough : zpl yX0_enough 2 := by unfold zpl; decide +kernel
theorem nX0_enoughOf : zpl yX0_enoughOf 2 := by unfold zpl; decide +kernel
theorem nX0_even : zpl yX0_even 1 := by unfold zpl; decide +kernel
theorem nX0_fault : zpl yX0_fault 1 := by unfold zpl; decide +kernel
theorem nX0_feed : zpl yX0_feed 5 := by unfold zpl; decide +kernel
theorem nX0_fewest : zpl yX0_fewest 1 := by unfold zpl; decide +kernel
theorem nX0_front : zpl yX0_front 2 := by unfold zpl; decide +kernel
theorem nX0_grant : zpl yX0_grant 0 := by unfold zpl; decide +kernel
theorem nX0_granted : zpl yX0_granted 0 := by unfold zpl; decide +kernel
theorem nX0_grantedOf : zpl yX0_grantedOf 1 := by unfold zpl; decide +kernel
theorem nX0_guard : zpl yX0_guard 1 := by unfold zpl; decide +kernel
theorem nX0_guardOf : zpl yX0_guardOf 1 := by unfold zpl; decide +kernel
theorem nX0_guarded : zpl yX0_guarded 1 := by unfold zpl; decide +kernel
theorem nX0_halved : zpl yX0_halved 0 := by unfold zpl; decide +kernel
theorem nX0_halves : zpl yX0_halves 0 := by unfold zpl; decide +kernel
theorem nX0_hold : zpl yX0_hold 2 := by unfold zpl; decide +kernel
theorem nX0_holds : zpl yX0_holds 3 := by unfold zpl; decide +kernel
theorem nX0_idle : zpl yX0_idle 0 := by unfold zpl; decide +kernel
theorem nX0_image : zpl yX0_image 1 := by unfold zpl; decide +kernel
theorem nX0_in : zpl yX0_in 3 := by unfold zpl; decide +kernel
theorem nX0_init : zpl yX0_init 0 := by unfold zpl; decide +kernel
theorem nX0_insist : zpl yX0_insist 1 := by unfold zpl; decide +kernel
theorem nX0_isBit : zpl yX0_isBit 1 := by unfold zpl; decide +kernel
theorem nX0_isDuel : zpl yX0_isDuel 2 := by unfold zpl; decide +kernel
theorem nX0_isFull : zpl yX0_isFull 0 := by unfold zpl; decide +kernel
theorem nX0_isMinute : zpl yX0_isMinute 1 := by unfold zpl; decide +kernel
theorem nX0_isOn : zpl yX0_isOn 2 := by unfold zpl; decide +kernel
theorem nX0_isRisk : zpl yX0_isRisk 2 := by unfold zpl; decide +kernel
theorem nX0_isSeed : zpl yX0_isSeed 1 := by unfold zpl; decide +kernel
theorem nX0_isSet : zpl yX0_isSet 1 := by unfold zpl; decide +kernel
theorem nX0_isSide : zpl yX0_isSide 1 := by unfold zpl; decide +kernel
theorem nX0_isSlot : zpl yX0_isSlot 1 := by unfold zpl; decide +kernel
theorem nX0_isTea : zpl yX0_isTea 1 := by unfold zpl; decide +kernel
theorem nX0_isTrain : zpl yX0_isTrain 1 := by unfold zpl; decide +kernel
theorem nX0_known : zpl yX0_known 2 := by unfold zpl; decide +kernel
theorem nX0_late : zpl yX0_late 1 := by unfold zpl; decide +kernel
theorem nX0_lateOf : zpl yX0_lateOf 1 := by unfold zpl; decide +kernel
theorem nX0_lays : zpl yX0_lays 3 := by unfold zpl; decide +kernel
theorem nX0_laysWorst : zpl yX0_laysWorst 1 := by unfold zpl; decide +kernel
theorem nX0_leaves : zpl yX0_leaves 1 := by unfold zpl; decide +kernel
theorem nX0_loopholes : zpl yX0_loopholes 0 := by unfold zpl; decide +kernel
theorem nX0_luck : zpl yX0_luck 3 := by unfold zpl; decide +kernel
theorem nX0_men : zpl yX0_men 3 := by unfold zpl; decide +kernel
theorem nX0_menAt : zpl yX0_menAt 3 := by unfold zpl; decide +kernel
theorem nX0_menOf : zpl yX0_menOf 4 := by unfold zpl; decide +kernel
theorem nX0_need : zpl yX0_need 1 := by unfold zpl; decide +kernel
theorem nX0_needs : zpl yX0_needs 2 := by unfold zpl; decide +kernel
theorem nX0_ofSide : zpl yX0_ofSide 1 := by unfold zpl; decide +kernel
theorem nX0_oftenOf : zpl yX0_oftenOf 2 := by unfold zpl; decide +kernel
theorem nX0_one : zpl yX0_one 1 := by unfold zpl; decide +kernel
theorem nX0_part : zpl yX0_part 3 := by unfold zpl; decide +kernel
theorem nX0_paste : zpl yX0_paste 5 := by unfold zpl; decide +kernel
theorem nX0_peaceFor : zpl yX0_peaceFor 1 := by unfold zpl; decide +kernel
theorem nX0_peak : zpl yX0_peak 2 := by unfold zpl; decide +kernel
theorem nX0_power : zpl yX0_power 1 := by unfold zpl; decide +kernel
theorem nX0_price : zpl yX0_price 2 := by unfold zpl; decide +kernel
theorem nX0_priceOf : zpl yX0_priceOf 1 := by unfold zpl; decide +kernel
theorem nX0_readings : zpl yX0_readings 1 := by unfold zpl; decide +kernel
theorem nX0_readingsOf : zpl yX0_readingsOf 1 := by unfold zpl; decide +kernel
theorem nX0_reply : zpl yX0_reply 3 := by unfold zpl; decide +kernel
theorem nX0_rests : zpl yX0_rests 1 := by unfold zpl; decide +kernel
theorem nX0_risk : zpl yX0_risk 2 := by unfold zpl; decide +kernel
theorem nX0_risked : zpl yX0_risked 2 := by unfold zpl; decide +kernel
theorem nX0_row : zpl yX0_row 3 := by unfold zpl; decide +kernel
theorem nX0_rule : zpl yX0_rule 2 := by unfold zpl; decide +kernel
theorem nX0_rules : zpl yX0_rules 0 := by unfold zpl; decide +kernel
theorem nX0_send : zpl yX0_send 1 := by unfold zpl; decide +kernel
theorem nX0_sent : zpl yX0_sent 1 := by unfold zpl; decide +kernel
theorem nX0_signs : zpl yX0_signs 0 := by unfold zpl; decide +kernel
theorem nX0_since : zpl yX0_since 2 := by unfold zpl; decide +kernel
theorem nX0_size : zpl yX0_size 1 := by unfold zpl; decide +kernel
theorem nX0_spies : zpl yX0_spies 1 := by unfold zpl; decide +kernel
theorem nX0_spiesOf : zpl yX0_spiesOf 1 := by unfold zpl; decide +kernel
theorem nX0_spoil : zpl yX0_spoil 2 := by unfold zpl; decide +kernel
theorem nX0_spoils : zpl yX0_spoils 2 := by unfold zpl; decide +kernel
theorem nX0_spoiltSet : zpl yX0_spoiltSet 2 := by unfold zpl; decide +kernel
theorem nX0_spy : zpl yX0_spy 1 := by unfold zpl; decide +kernel
theorem nX0_stands : zpl yX0_stands 2 := by unfold zpl; decide +kernel
theorem nX0_swings : zpl yX0_swings 1 := by unfold zpl; decide +kernel
theorem nX0_tea : zpl yX0_tea 1 := by unfold zpl; decide +kernel
theorem nX0_tell : zpl yX0_tell 3 := by unfold zpl; decide +kernel
theorem nX0_train : zpl yX0_train 2 := by unfold zpl; decide +kernel
theorem nX0_trains : zpl yX0_trains 0 := by unfold zpl; decide +kernel
theorem nX0_treaties : zpl yX0_treaties 1 := by unfold zpl; decide +kernel
theorem nX0_undo : zpl yX0_undo 0 := by unfold zpl; decide +kernel
theorem nX0_valueOf : zpl yX0_valueOf 6 := by unfold zpl; decide +kernel
theorem nX0_war : zpl yX0_war 0 := by unfold zpl; decide +kernel
theorem nX0_watch : zpl yX0_watch 1 := by unfold zpl; decide +kernel
theorem nX0_watches : zpl yX0_watches 1 := by unfold zpl; decide +kernel
theorem nX0_ways : zpl yX0_ways 1 := by unfold zpl; decide +kernel
theorem nX0_wins : zpl yX0_wins 1 := by unfold zpl; decide +kernel
theorem nX0_winsOf : zpl yX0_winsOf 1 := by unfold zpl; decide +kernel
theorem nX0_worst : zpl yX0_worst 1 := by unfold zpl; decide +kernel
theorem nX0_worthOf : zpl yX0_worthOf 1 := by unfold zpl; decide +kernel
theorem nX0_write : zpl yX0_write 3 := by unfold zpl; decide +kernel
theorem nX1_begins : zpl yX1_begins 2 := by unfold zpl; decide +kernel
theorem nX1_init : zpl yX1_init 0 := by unfold zpl; decide +kernel
theorem nX1_pastes : zpl yX1_pastes 4 := by unfold zpl; decide +kernel
theorem nX1_put : zpl yX1_put 2 := by unfold zpl; decide +kernel
theorem nX1_putWider : zpl yX1_putWider 2 := by unfold zpl; decide +kernel
theorem nX1_puts : zpl yX1_puts 2 := by unfold zpl; decide +kernel
theorem nX1_width : zpl yX1_width 0 := by unfold zpl; decide +kernel
theorem nX10_goes : zpl yX10_goes 2 := by unfold zpl; decide +kernel
theorem nX10_init : zpl yX10_init 0 := by unfold zpl; decide +kernel
theorem nX10_lays : zpl yX10_lays 4 := by unfold zpl; decide +kernel
theorem nX10_replies : zpl yX10_replies 4 := by unfold zpl; decide +kernel
theorem nX11_advance : zpl yX11_advance 0 := by unfold zpl; decide +kernel
theorem nX11_allOften : zpl yX11_allOften 0 := by unfold zpl; decide +kernel
theorem nX11_allReadings : zpl yX11_allReadings 0 := by unfold zpl; decide +kernel
theorem nX11_allTrains : zpl yX11_allTrains 0 := by unfold zpl; decide +kernel
theorem nX11_answer : zpl yX11_answer 2 := by unfold zpl; decide +kernel
theorem nX11_areMen : zpl yX11_areMen 2 := by unfold zpl; decide +kernel
theorem nX11_areTrains : zpl yX11_areTrains 1 := by unfold zpl; decide +kernel
theorem nX11_back : zpl yX11_back 1 := by unfold zpl; decide +kernel
theorem nX11_bestGood : zpl yX11_bestGood 3 := by unfold zpl; decide +kernel
theorem nX11_bit : zpl yX11_bit 2 := by unfold zpl; decide +kernel
theorem nX11_bits : zpl yX11_bits 1 := by unfold zpl; decide +kernel
theorem nX11_bribe : zpl yX11_bribe 1 := by unfold zpl; decide +kernel
theorem nX11_bribed : zpl yX11_bribed 1 := by unfold zpl; decide +kernel
theorem nX11_by : zpl yX11_by 1 := by unfold zpl; decide +kernel
theorem nX11_canGrant : zpl yX11_canGrant 2 := by unfold zpl; decide +kernel
theorem nX11_cannon : zpl yX11_cannon 2 := by unfold zpl; decide +kernel
theorem nX11_chance : zpl yX11_chance 2 := by unfold zpl; decide +kernel
theorem nX11_change : zpl yX11_change 2 := by unfold zpl; decide +kernel
theorem nX11_changed : zpl yX11_changed 2 := by unfold zpl; decide +kernel
theorem nX11_close : zpl yX11_close 1 := by unfold zpl; decide +kernel
theorem nX11_closed : zpl yX11_closed 1 := by unfold zpl; decide +kernel
theorem nX11_closedOf : zpl yX11_closedOf 1 := by unfold zpl; decide +kernel
theorem nX11_comes : zpl yX11_comes 2 := by unfold zpl; decide +kernel
theorem nX11_comesAt : zpl yX11_comesAt 2 := by unfold zpl; decide +kernel
theorem nX11_count : zpl yX11_count 1 := by unfold zpl; decide +kernel
theorem nX11_cut : zpl yX11_cut 2 := by unfold zpl; decide +kernel
theorem nX11_divisor : zpl yX11_divisor 2 := by unfold zpl; decide +kernel
theorem nX11_drawn : zpl yX11_drawn 2 := by unfold zpl; decide +kernel
theorem nX11_drawnDelays : zpl yX11_drawnDelays 1 := by unfold zpl; decide +kernel
theorem nX11_dry : zpl yX11_dry 3 := by unfold zpl; decide +kernel
theorem nX11_end : zpl yX11_end 1 := by unfold zpl; decide +kernel
theorem nX11_endOf : zpl yX11_endOf 1 := by unfold zpl; decide +kernel
theorem nX11_enough : zpl yX11_enough 2 := by unfold zpl; decide +kernel
theorem nX11_enoughBy : zpl yX11_enoughBy 2 := by unfold zpl; decide +kernel
theorem nX11_errs : zpl yX11_errs 1 := by unfold zpl; decide +kernel
theorem nX11_even : zpl yX11_even 1 := by unfold zpl; decide +kernel
theorem nX11_fault : zpl yX11_fault 1 := by unfold zpl; decide +kernel
theorem nX11_feed : zpl yX11_feed 5 := by unfold zpl; decide +kernel
theorem nX11_fewest : zpl yX11_fewest 1 := by unfold zpl; decide +kernel
theorem nX11_fillFronts : zpl yX11_fillFronts 0 := by unfold zpl; decide +kernel
theorem nX11_findBribe : zpl yX11_findBribe 2 := by unfold zpl; decide +kernel
theorem nX11_findRisk : zpl yX11_findRisk 2 := by unfold zpl; decide +kernel
theorem nX11_findSend : zpl yX11_findSend 2 := by unfold zpl; decide +kernel
theorem nX11_front : zpl yX11_front 2 := by unfold zpl; decide +kernel
theorem nX11_frontOf : zpl yX11_frontOf 2 := by unfold zpl; decide +kernel
theorem nX11_good : zpl yX11_good 0 := by unfold zpl; decide +kernel
theorem nX11_goodBy : zpl yX11_goodBy 2 := by unfold zpl; decide +kernel
theorem nX11_grant : zpl yX11_grant 0 := by unfold zpl; decide +kernel
theorem nX11_grantOf : zpl yX11_grantOf 1 := by unfold zpl; decide +kernel
theorem nX11_granted : zpl yX11_granted 0 := by unfold zpl; decide +kernel
theorem nX11_guard : zpl yX11_guard 1 := by unfold zpl; decide +kernel
theorem nX11_guardOf : zpl yX11_guardOf 1 := by unfold zpl; decide +kernel
theorem nX11_guarded : zpl yX11_guarded 1 := by unfold zpl; decide +kernel
theorem nX11_halved : zpl yX11_halved 0 := by unfold zpl; decide +kernel
theorem nX11_halves : zpl yX11_halves 0 := by unfold zpl; decide +kernel
theorem nX11_heldBy : zpl yX11_heldBy 1 := by unfold zpl; decide +kernel
theorem nX11_hold : zpl yX11_hold 2 := by unfold zpl; decide +kernel
theorem nX11_holdOf : zpl yX11_holdOf 2 := by unfold zpl; decide +kernel
theorem nX11_holds : zpl yX11_holds 3 := by unfold zpl; decide +kernel
theorem nX11_holdsBy : zpl yX11_holdsBy 2 := by unfold zpl; decide +kernel
theorem nX11_idle : zpl yX11_idle 0 := by unfold zpl; decide +kernel
theorem nX11_image : zpl yX11_image 1 := by unfold zpl; decide +kernel
theorem nX11_in : zpl yX11_in 3 := by unfold zpl; decide +kernel
theorem nX11_init : zpl yX11_init 0 := by unfold zpl; decide +kernel
theorem nX11_insist : zpl yX11_insist 1 := by unfold zpl; decide +kernel
theorem nX11_is : zpl yX11_is 1 := by unfold zpl; decide +kernel
theorem nX11_isAny : zpl yX11_isAny 1 := by unfold zpl; decide +kernel
theorem nX11_isBought : zpl yX11_isBought 3 := by unfold zpl; decide +kernel
theorem nX11_isLate : zpl yX11_isLate 2 := by unfold zpl; decide +kernel
theorem nX11_isOften : zpl yX11_isOften 2 := by unfold zpl; decide +kernel
theorem nX11_isPrice : zpl yX11_isPrice 1 := by unfold zpl; decide +kernel
theorem nX11_isSeed : zpl yX11_isSeed 1 := by unfold zpl; decide +kernel
theorem nX11_isSide : zpl yX11_isSide 1 := by unfold zpl; decide +kernel
theorem nX11_isSigned : zpl yX11_isSigned 1 := by unfold zpl; decide +kernel
theorem nX11_isSlot : zpl yX11_isSlot 1 := by unfold zpl; decide +kernel
theorem nX11_isSurely : zpl yX11_isSurely 2 := by unfold zpl; decide +kernel
theorem nX11_isTea : zpl yX11_isTea 1 := by unfold zpl; decide +kernel
theorem nX11_isTrain : zpl yX11_isTrain 1 := by unfold zpl; decide +kernel
theorem nX11_isTreaty : zpl yX11_isTreaty 2 := by unfold zpl; decide +kernel
theorem nX11_isWar : zpl yX11_isWar 0 := by unfold zpl; decide +kernel
theorem nX11_knowing : zpl yX11_knowing 2 := by unfold zpl; decide +kernel
theorem nX11_known : zpl yX11_known 2 := by unfold zpl; decide +kernel
theorem nX11_lastFront : zpl yX11_lastFront 1 := by unfold zpl; decide +kernel
theorem nX11_late : zpl yX11_late 1 := by unfold zpl; decide +kernel
theorem nX11_leaves : zpl yX11_leaves 1 := by unfold zpl; decide +kernel
theorem nX11_loopholes : zpl yX11_loopholes 0 := by unfold zpl; decide +kernel
theorem nX11_luck : zpl yX11_luck 3 := by unfold zpl; decide +kernel
theorem nX11_men : zpl yX11_men 3 := by unfold zpl; decide +kernel
theorem nX11_menOf : zpl yX11_menOf 3 := by unfold zpl; decide +kernel
theorem nX11_menSent : zpl yX11_menSent 2 := by unfold zpl; decide +kernel
theorem nX11_need : zpl yX11_need 1 := by unfold zpl; decide +kernel
theorem nX11_needs : zpl yX11_needs 1 := by unfold zpl; decide +kernel
theorem nX11_needs_2 : zpl yX11_needs_2 2 := by unfold zpl; decide +kernel
theorem nX11_nextAsk : zpl yX11_nextAsk 2 := by unfold zpl; decide +kernel
theorem nX11_number : zpl yX11_number 2 := by unfold zpl; decide +kernel
theorem nX11_of : zpl yX11_of 2 := by unfold zpl; decide +kernel
theorem nX11_ofAsk : zpl yX11_ofAsk 2 := by unfold zpl; decide +kernel
theorem nX11_oftenOf : zpl yX11_oftenOf 1 := by unfold zpl; decide +kernel
theorem nX11_orNone : zpl yX11_orNone 0 := by unfold zpl; decide +kernel
theorem nX11_part : zpl yX11_part 3 := by unfold zpl; decide +kernel
theorem nX11_paste : zpl yX11_paste 5 := by unfold zpl; decide +kernel
theorem nX11_peak : zpl yX11_peak 2 := by unfold zpl; decide +kernel
theorem nX11_price : zpl yX11_price 2 := by unfold zpl; decide +kernel
theorem nX11_priceOf : zpl yX11_priceOf 1 := by unfold zpl; decide +kernel
theorem nX11_readAsk : zpl yX11_readAsk 0 := by unfold zpl; decide +kernel
theorem nX11_readBounds : zpl yX11_readBounds 1 := by unfold zpl; decide +kernel
theorem nX11_readFirst : zpl yX11_readFirst 0 := by unfold zpl; decide +kernel
theorem nX11_readLine : zpl yX11_readLine 0 := by unfold zpl; decide +kernel
theorem nX11_readNeed : zpl yX11_readNeed 0 := by unfold zpl; decide +kernel
theorem nX11_readNext : zpl yX11_readNext 0 := by unfold zpl; decide +kernel
theorem nX11_readSpy : zpl yX11_readSpy 0 := by unfold zpl; decide +kernel
theorem nX11_readTrain : zpl yX11_readTrain 0 := by unfold zpl; decide +kernel
theorem nX11_readings : zpl yX11_readings 1 := by unfold zpl; decide +kernel
theorem nX11_readingsOf : zpl yX11_readingsOf 1 := by unfold zpl; decide +kernel
theorem nX11_reply : zpl yX11_reply 3 := by unfold zpl; decide +kernel
theorem nX11_rests : zpl yX11_rests 1 := by unfold zpl; decide +kernel
theorem nX11_risk : zpl yX11_risk 2 := by unfold zpl; decide +kernel
theorem nX11_risked : zpl yX11_risked 2 := by unfold zpl; decide +kernel
theorem nX11_row : zpl yX11_row 3 := by unfold zpl; decide +kernel
theorem nX11_rule : zpl yX11_rule 2 := by unfold zpl; decide +kernel
theorem nX11_see : zpl yX11_see 1 := by unfold zpl; decide +kernel
theorem nX11_send : zpl yX11_send 1 := by unfold zpl; decide +kernel
theorem nX11_sent : zpl yX11_sent 1 := by unfold zpl; decide +kernel
theorem nX11_signs : zpl yX11_signs 0 := by unfold zpl; decide +kernel
theorem nX11_since : zpl yX11_since 2 := by unfold zpl; decide +kernel
theorem nX11_spies : zpl yX11_spies 1 := by unfold zpl; decide +kernel
theorem nX11_spiesBy : zpl yX11_spiesBy 1 := by unfold zpl; decide +kernel
theorem nX11_spoil : zpl yX11_spoil 2 := by unfold zpl; decide +kernel
theorem nX11_spoilOf : zpl yX11_spoilOf 2 := by unfold zpl; decide +kernel
theorem nX11_spoils : zpl yX11_spoils 2 := by unfold zpl; decide +kernel
theorem nX11_spy : zpl yX11_spy 1 := by unfold zpl; decide +kernel
theorem nX11_swings : zpl yX11_swings 1 := by unfold zpl; decide +kernel
theorem nX11_take : zpl yX11_take 2 := by unfold zpl; decide +kernel
theorem nX11_takes : zpl yX11_takes 1 := by unfold zpl; decide +kernel
theorem nX11_tea : zpl yX11_tea 1 := by unfold zpl; decide +kernel
theorem nX11_tell : zpl yX11_tell 3 := by unfold zpl; decide +kernel
theorem nX11_told : zpl yX11_told 3 := by unfold zpl; decide +kernel
theorem nX11_train : zpl yX11_train 2 := by unfold zpl; decide +kernel
theorem nX11_trainsOf : zpl yX11_trainsOf 1 := by unfold zpl; decide +kernel
theorem nX11_treaties : zpl yX11_treaties 1 := by unfold zpl; decide +kernel
theorem nX11_undo : zpl yX11_undo 0 := by unfold zpl; decide +kernel
theorem nX11_valueOf : zpl yX11_valueOf 1 := by unfold zpl; decide +kernel
theorem nX11_war : zpl yX11_war 0 := by unfold zpl; decide +kernel
theorem nX11_watch : zpl yX11_watch 1 := by unfold zpl; decide +kernel
theorem nX11_watchOf : zpl yX11_watchOf 1 := by unfold zpl; decide +kernel
theorem nX11_ways : zpl yX11_ways 1 := by unfold zpl; decide +kernel
theorem nX11_winner : zpl yX11_winner 1 := by unfold zpl; decide +kernel
theorem nX11_wins : zpl yX11_wins 1 := by unfold zpl; decide +kernel
theorem nX11_worst : zpl yX11_worst 1 := by unfold zpl; decide +kernel
theorem nX11_worstOf : zpl yX11_worstOf 1 := by unfold zpl; decide +kernel
theorem nX11_write : zpl yX11_write 3 := by unfold zpl; decide +kernel
theorem nX12_askLine : zpl yX12_askLine 0 := by unfold zpl; decide +kernel
theorem nX12_asks : zpl yX12_asks 1 := by unfold zpl; decide +kernel
theorem nX12_fault : zpl yX12_fault 1 := by unfold zpl; decide +kernel
theorem nX12_init : zpl yX12_init 2 := by unfold zpl; decide +kernel
theorem nX12_is : zpl yX12_is 1 := by unfold zpl; decide +kernel
theorem nX12_isAt : zpl yX12_isAt 2 := by unfold zpl; decide +kernel
theorem nX12_line : zpl yX12_line 0 := by unfold zpl; decide +kernel
theorem nX12_next : zpl yX12_next 0 := by unfold zpl; decide +kernel
theorem nX12_number : zpl yX12_number 3 := by unfold zpl; decide +kernel
theorem nX12_number_2 : zpl yX12_number_2 2 := by unfold zpl; decide +kernel
theorem nX12_reads : zpl yX12_reads 0 := by unfold zpl; decide +kernel
theorem nX12_room : zpl yX12_room 1 := by unfold zpl; decide +kernel
theorem nX12_side : zpl yX12_side 0 := by unfold zpl; decide +kernel
theorem nX12_span : zpl yX12_span 0 := by unfold zpl; decide +kernel
theorem nX12_spyLine : zpl yX12_spyLine 0 := by unfold zpl; decide +kernel
theorem nX12_takes : zpl yX12_takes 1 := by unfold zpl; decide +kernel
theorem nX12_trainLine : zpl yX12_trainLine 0 := by unfold zpl; decide +kernel
theorem nX13_init : zpl yX13_init 2 := by unfold zpl; decide +kernel
theorem nX14_comes : zpl yX14_comes 1 := by unfold zpl; decide +kernel
theorem nX14_init : zpl yX14_init 0 := by unfold zpl; decide +kernel
theorem nX14_same : zpl yX14_same 0 := by unfold zpl; decide +kernel
theorem nX15_init : zpl yX15_init 4 := by unfold zpl; decide +kernel
theorem nX15_meets : zpl yX15_meets 1 := by unfold zpl; decide +kernel
theorem nX16_forbids : zpl yX16_forbids 3 := by unfold zpl; decide +kernel
theorem nX16_has : zpl yX16_has 1 := by unfold zpl; decide +kernel
theorem nX16_init : zpl yX16_init 2 := by unfold zpl; decide +kernel
theorem nX17_init : zpl yX17_init 3 := by unfold zpl; decide +kernel
theorem nX2_all : zpl yX2_all 0 := by unfold zpl; decide +kernel
theorem nX2_init : zpl yX2_init 0 := by unfold zpl; decide +kernel
theorem nX2_is : zpl yX2_is 0 := by unfold zpl; decide +kernel
theorem nX2_same : zpl yX2_same 0 := by unfold zpl; decide +kernel
theorem nX3_goes : zpl yX3_goes 1 := by unfold zpl; decide +kernel
theorem nX3_good : zpl yX3_good 2 := by unfold zpl; decide +kernel
theorem nX3_init : zpl yX3_init 1 := by unfold zpl; decide +kernel
theorem nX3_last : zpl yX3_last 0 := by unfold zpl; decide +kernel
theorem nX4_cost : zpl yX4_cost 1 := by unfold zpl; decide +kernel
theorem nX4_costOf : zpl yX4_costOf 1 := by unfold zpl; decide +kernel
theorem nX4_init : zpl yX4_init 1 := by unfold zpl; decide +kernel
theorem nX4_seeks : zpl yX4_seeks 1 := by unfold zpl; decide +kernel
theorem nX5_init : zpl yX5_init 1 := by unfold zpl; decide +kernel
theorem nX5_may : zpl yX5_may 2 := by unfold zpl; decide +kernel
theorem nX6_costOf : zpl yX6_costOf 1 := by unfold zpl; decide +kernel
theorem nX6_init : zpl yX6_init 1 := by unfold zpl; decide +kernel
theorem nX7_init : zpl yX7_init 1 := by unfold zpl; decide +kernel
theorem nX7_may : zpl yX7_may 2 := by unfold zpl; decide +kernel
theorem nX7_of : zpl yX7_of 1 := by unfold zpl; decide +kernel
theorem nX8_but : zpl yX8_but 1 := by unfold zpl; decide +kernel
theorem nX8_init : zpl yX8_init 1 := by unfold zpl; decide +kernel
theorem nX8_may : zpl yX8_may 2 := by unfold zpl; decide +kernel
theorem nX9_best : zpl yX9_best 2 := by unfold zpl; decide +kernel
theorem nX9_good : zpl yX9_good 3 := by unfold zpl; decide +kernel
theorem nX9_init : zpl yX9_init 1 := by unfold zpl; decide +kernel
theorem nX9_isRest : zpl yX9_isRest 2 := by unfold zpl; decide +kernel
theorem nX9_lays : zpl yX9_lays 1 := by unfold zpl; decide +kernel
theorem nX9_of : zpl yX9_of 2 := by unfold zpl; decide +kernel
theorem nX9_rests : zpl yX9_rests 0 := by unfold zpl; decide +kernel
