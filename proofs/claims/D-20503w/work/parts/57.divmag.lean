/-! ## walks (written by tools) -/
set_option maxRecDepth 100000
def dkwJ24_divideMagnitude_55 : List UInt8 := [153, 0, 8, 25, 7, 167, 0, 4, 1, 176]
abbrev dktJ24_divideMagnitude_55 : List UInt8 := dkwJ24_divideMagnitude_55 ++ []
def dkwJ24_divideMagnitude_54 : List UInt8 := [21, 4, 158, 0, 10, 25, 7, 21, 4, 182, 0, 108, 25, 7, 182, 0, 64, 44, 182, 0, 64, 29]
abbrev dktJ24_divideMagnitude_54 : List UInt8 := dkwJ24_divideMagnitude_54 ++ dktJ24_divideMagnitude_55
def dkwJ24_divideMagnitude_53 : List UInt8 := [180, 0, 11, 96, 182, 1, 25, 87, 132, 15, 255, 25, 10, 21, 9, 4, 100, 21, 15, 79, 29, 153, 0, 20]
abbrev dktJ24_divideMagnitude_53 : List UInt8 := dkwJ24_divideMagnitude_53 ++ dktJ24_divideMagnitude_54
def dkwJ24_divideMagnitude_52 : List UInt8 := [164, 0, 34, 29, 153, 0, 27, 42, 25, 6, 25, 7, 180, 0, 17, 21, 9, 4, 100, 4, 96, 25, 7]
abbrev dktJ24_divideMagnitude_52 : List UInt8 := dkwJ24_divideMagnitude_52 ++ dktJ24_divideMagnitude_53
def dkwJ24_divideMagnitude_51 : List UInt8 := [21, 9, 4, 100, 25, 7, 180, 0, 11, 96, 182, 1, 29, 54, 21, 21, 21, 18, 88, 96, 21, 19]
abbrev dktJ24_divideMagnitude_51 : List UInt8 := dkwJ24_divideMagnitude_51 ++ dktJ24_divideMagnitude_52
def dkwJ24_divideMagnitude_50 : List UInt8 := [180, 0, 11, 96, 182, 1, 21, 54, 21, 167, 0, 30, 42, 25, 7, 180, 0, 17, 25, 6, 21, 15, 21, 5]
abbrev dktJ24_divideMagnitude_50 : List UInt8 := dkwJ24_divideMagnitude_50 ++ dktJ24_divideMagnitude_51
def dkwJ24_divideMagnitude_49 : List UInt8 := [3, 79, 29, 153, 0, 33, 42, 25, 7, 180, 0, 17, 25, 6, 21, 15, 21, 5, 21, 9, 4, 100, 25, 7]
abbrev dktJ24_divideMagnitude_49 : List UInt8 := dkwJ24_divideMagnitude_49 ++ dktJ24_divideMagnitude_50
def dkwJ24_divideMagnitude_48 : List UInt8 := [182, 1, 17, 153, 0, 6, 132, 15, 255, 25, 7, 180, 0, 17, 21, 9, 4, 100, 25, 7, 180, 0, 11, 96]
abbrev dktJ24_divideMagnitude_48 : List UInt8 := dkwJ24_divideMagnitude_48 ++ dktJ24_divideMagnitude_49
def dkwJ24_divideMagnitude_47 : List UInt8 := [101, 55, 25, 21, 16, 133, 20, 0, 52, 127, 16, 32, 121, 22, 21, 129, 55, 23, 42, 22, 25, 22, 23]
abbrev dktJ24_divideMagnitude_47 : List UInt8 := dkwJ24_divideMagnitude_47 ++ dktJ24_divideMagnitude_48
def dkwJ24_divideMagnitude_46 : List UInt8 := [54, 16, 21, 16, 133, 20, 0, 52, 127, 22, 12, 148, 155, 0, 44, 22, 25, 21, 14, 133, 20, 0, 52, 127]
abbrev dktJ24_divideMagnitude_46 : List UInt8 := dkwJ24_divideMagnitude_46 ++ dktJ24_divideMagnitude_47
def dkwJ24_divideMagnitude_45 : List UInt8 := [22, 25, 22, 23, 182, 1, 17, 153, 0, 73, 132, 15, 255, 21, 16, 133, 20, 0, 52, 127, 22, 12, 97, 136]
abbrev dktJ24_divideMagnitude_45 : List UInt8 := dkwJ24_divideMagnitude_45 ++ dktJ24_divideMagnitude_46
def dkwJ24_divideMagnitude_44 : List UInt8 := [121, 22, 21, 129, 55, 23, 21, 14, 133, 20, 0, 52, 127, 21, 15, 133, 20, 0, 52, 127, 105, 55, 25, 42]
abbrev dktJ24_divideMagnitude_44 : List UInt8 := dkwJ24_divideMagnitude_44 ++ dktJ24_divideMagnitude_45
def dkwJ24_divideMagnitude_43 : List UInt8 := [96, 25, 7, 180, 0, 11, 96, 46, 133, 20, 0, 52, 127, 55, 21, 21, 16, 133, 20, 0, 52, 127, 16, 32]
abbrev dktJ24_divideMagnitude_43 : List UInt8 := dkwJ24_divideMagnitude_43 ++ dktJ24_divideMagnitude_44
def dkwJ24_divideMagnitude_42 : List UInt8 := [16, 32, 125, 136, 54, 16, 21, 15, 153, 1, 16, 21, 17, 154, 0, 139, 25, 7, 180, 0, 17, 21, 9, 4]
abbrev dktJ24_divideMagnitude_42 : List UInt8 := dkwJ24_divideMagnitude_42 ++ dktJ24_divideMagnitude_43
def dkwJ24_divideMagnitude_41 : List UInt8 := [167, 0, 29, 22, 21, 21, 11, 184, 0, 155, 55, 23, 22, 23, 20, 0, 52, 127, 136, 54, 15, 22, 23]
abbrev dktJ24_divideMagnitude_41 : List UInt8 := dkwJ24_divideMagnitude_41 ++ dktJ24_divideMagnitude_42
def dkwJ24_divideMagnitude_40 : List UInt8 := [155, 0, 26, 22, 21, 22, 12, 109, 136, 54, 15, 22, 21, 21, 15, 133, 22, 12, 105, 101, 136, 54, 16]
abbrev dktJ24_divideMagnitude_40 : List UInt8 := dkwJ24_divideMagnitude_40 ++ dktJ24_divideMagnitude_41
def dkwJ24_divideMagnitude_39 : List UInt8 := [167, 0, 75, 21, 18, 133, 16, 32, 121, 21, 20, 133, 20, 0, 52, 127, 129, 55, 21, 22, 21, 9, 148]
abbrev dktJ24_divideMagnitude_39 : List UInt8 := dkwJ24_divideMagnitude_39 ++ dktJ24_divideMagnitude_40
def dkwJ24_divideMagnitude_38 : List UInt8 := [21, 18, 21, 20, 96, 54, 16, 21, 16, 18, 88, 96, 21, 19, 162, 0, 7, 4, 167, 0, 4, 3, 54, 17]
abbrev dktJ24_divideMagnitude_38 : List UInt8 := dkwJ24_divideMagnitude_38 ++ dktJ24_divideMagnitude_39
def dkwJ24_divideMagnitude_37 : List UInt8 := [180, 0, 17, 21, 9, 25, 7, 180, 0, 11, 96, 46, 54, 20, 21, 18, 21, 11, 160, 0, 33, 2, 54, 15]
abbrev dktJ24_divideMagnitude_37 : List UInt8 := dkwJ24_divideMagnitude_37 ++ dktJ24_divideMagnitude_38
def dkwJ24_divideMagnitude_36 : List UInt8 := [21, 9, 4, 100, 25, 7, 180, 0, 11, 96, 46, 54, 18, 21, 18, 18, 88, 96, 54, 19, 25, 7]
abbrev dktJ24_divideMagnitude_36 : List UInt8 := dkwJ24_divideMagnitude_36 ++ dktJ24_divideMagnitude_37
def dkwJ24_divideMagnitude_35 : List UInt8 := [21, 16, 79, 132, 15, 1, 167, 254, 110, 3, 54, 15, 3, 54, 16, 3, 54, 17, 25, 7, 180, 0, 17]
abbrev dktJ24_divideMagnitude_35 : List UInt8 := dkwJ24_divideMagnitude_35 ++ dktJ24_divideMagnitude_36
def dkwJ24_divideMagnitude_34 : List UInt8 := [180, 0, 17, 21, 15, 4, 96, 25, 7, 180, 0, 11, 96, 182, 1, 25, 87, 132, 16, 255, 25, 10, 21, 15]
abbrev dktJ24_divideMagnitude_34 : List UInt8 := dkwJ24_divideMagnitude_34 ++ dktJ24_divideMagnitude_35
def dkwJ24_divideMagnitude_33 : List UInt8 := [180, 0, 11, 96, 182, 1, 21, 54, 22, 21, 22, 18, 88, 96, 21, 20, 164, 0, 28, 42, 25, 6, 25, 7]
abbrev dktJ24_divideMagnitude_33 : List UInt8 := dkwJ24_divideMagnitude_33 ++ dktJ24_divideMagnitude_34
def dkwJ24_divideMagnitude_32 : List UInt8 := [180, 0, 11, 96, 3, 79, 42, 25, 7, 180, 0, 17, 25, 6, 21, 16, 21, 5, 21, 15, 25, 7]
abbrev dktJ24_divideMagnitude_32 : List UInt8 := dkwJ24_divideMagnitude_32 ++ dktJ24_divideMagnitude_33
def dkwJ24_divideMagnitude_31 : List UInt8 := [22, 26, 22, 24, 182, 1, 17, 153, 0, 6, 132, 16, 255, 25, 7, 180, 0, 17, 21, 15, 25, 7]
abbrev dktJ24_divideMagnitude_31 : List UInt8 := dkwJ24_divideMagnitude_31 ++ dktJ24_divideMagnitude_32
def dkwJ24_divideMagnitude_30 : List UInt8 := [20, 0, 52, 127, 101, 55, 26, 21, 17, 133, 20, 0, 52, 127, 16, 32, 121, 22, 22, 129, 55, 24, 42]
abbrev dktJ24_divideMagnitude_30 : List UInt8 := dkwJ24_divideMagnitude_30 ++ dktJ24_divideMagnitude_31
def dkwJ24_divideMagnitude_29 : List UInt8 := [22, 12, 97, 136, 54, 17, 21, 17, 133, 20, 0, 52, 127, 22, 12, 148, 155, 0, 44, 22, 26, 21, 14, 133]
abbrev dktJ24_divideMagnitude_29 : List UInt8 := dkwJ24_divideMagnitude_29 ++ dktJ24_divideMagnitude_30
def dkwJ24_divideMagnitude_28 : List UInt8 := [55, 26, 42, 22, 26, 22, 24, 182, 1, 17, 153, 0, 73, 132, 16, 255, 21, 17, 133, 20, 0, 52, 127]
abbrev dktJ24_divideMagnitude_28 : List UInt8 := dkwJ24_divideMagnitude_28 ++ dktJ24_divideMagnitude_29
def dkwJ24_divideMagnitude_27 : List UInt8 := [127, 16, 32, 121, 22, 22, 129, 55, 24, 21, 14, 133, 20, 0, 52, 127, 21, 16, 133, 20, 0, 52, 127, 105]
abbrev dktJ24_divideMagnitude_27 : List UInt8 := dkwJ24_divideMagnitude_27 ++ dktJ24_divideMagnitude_28
def dkwJ24_divideMagnitude_26 : List UInt8 := [21, 15, 5, 96, 25, 7, 180, 0, 11, 96, 46, 133, 20, 0, 52, 127, 55, 22, 21, 17, 133, 20, 0, 52]
abbrev dktJ24_divideMagnitude_26 : List UInt8 := dkwJ24_divideMagnitude_26 ++ dktJ24_divideMagnitude_27
def dkwJ24_divideMagnitude_25 : List UInt8 := [16, 32, 125, 136, 54, 17, 21, 16, 154, 0, 6, 167, 0, 226, 21, 18, 154, 0, 139, 25, 7, 180, 0, 17]
abbrev dktJ24_divideMagnitude_25 : List UInt8 := dkwJ24_divideMagnitude_25 ++ dktJ24_divideMagnitude_26
def dkwJ24_divideMagnitude_24 : List UInt8 := [167, 0, 29, 22, 22, 21, 11, 184, 0, 155, 55, 24, 22, 24, 20, 0, 52, 127, 136, 54, 16, 22, 24]
abbrev dktJ24_divideMagnitude_24 : List UInt8 := dkwJ24_divideMagnitude_24 ++ dktJ24_divideMagnitude_25
def dkwJ24_divideMagnitude_23 : List UInt8 := [148, 155, 0, 26, 22, 22, 22, 12, 109, 136, 54, 16, 22, 22, 21, 16, 133, 22, 12, 105, 101, 136, 54, 17]
abbrev dktJ24_divideMagnitude_23 : List UInt8 := dkwJ24_divideMagnitude_23 ++ dktJ24_divideMagnitude_24
def dkwJ24_divideMagnitude_22 : List UInt8 := [54, 18, 167, 0, 75, 21, 19, 133, 16, 32, 121, 21, 21, 133, 20, 0, 52, 127, 129, 55, 22, 22, 22, 9]
abbrev dktJ24_divideMagnitude_22 : List UInt8 := dkwJ24_divideMagnitude_22 ++ dktJ24_divideMagnitude_23
def dkwJ24_divideMagnitude_21 : List UInt8 := [54, 16, 21, 19, 21, 21, 96, 54, 17, 21, 17, 18, 88, 96, 21, 20, 162, 0, 7, 4, 167, 0, 4, 3]
abbrev dktJ24_divideMagnitude_21 : List UInt8 := dkwJ24_divideMagnitude_21 ++ dktJ24_divideMagnitude_22
def dkwJ24_divideMagnitude_20 : List UInt8 := [180, 0, 17, 21, 15, 4, 96, 25, 7, 180, 0, 11, 96, 46, 54, 21, 21, 19, 21, 11, 160, 0, 33, 2]
abbrev dktJ24_divideMagnitude_20 : List UInt8 := dkwJ24_divideMagnitude_20 ++ dktJ24_divideMagnitude_21
def dkwJ24_divideMagnitude_19 : List UInt8 := [180, 0, 17, 21, 15, 25, 7, 180, 0, 11, 96, 46, 54, 19, 21, 19, 18, 88, 96, 54, 20, 25, 7]
abbrev dktJ24_divideMagnitude_19 : List UInt8 := dkwJ24_divideMagnitude_19 ++ dktJ24_divideMagnitude_20
def dkwJ24_divideMagnitude_18 : List UInt8 := [3, 54, 15, 21, 15, 21, 9, 4, 100, 162, 1, 143, 3, 54, 16, 3, 54, 17, 3, 54, 18, 25, 7]
abbrev dktJ24_divideMagnitude_18 : List UInt8 := dkwJ24_divideMagnitude_18 ++ dktJ24_divideMagnitude_19
def dkwJ24_divideMagnitude_17 : List UInt8 := [181, 0, 21, 25, 6, 3, 46, 54, 11, 21, 11, 133, 20, 0, 52, 127, 55, 12, 25, 6, 4, 46, 54, 14]
abbrev dktJ24_divideMagnitude_17 : List UInt8 := dkwJ24_divideMagnitude_17 ++ dktJ24_divideMagnitude_18
def dkwJ24_divideMagnitude_16 : List UInt8 := [58, 10, 25, 7, 3, 181, 0, 11, 25, 7, 180, 0, 17, 3, 3, 79, 25, 7, 89, 180, 0, 21, 4, 96]
abbrev dktJ24_divideMagnitude_16 : List UInt8 := dkwJ24_divideMagnitude_16 ++ dktJ24_divideMagnitude_17
def dkwJ24_divideMagnitude_15 : List UInt8 := [44, 21, 9, 188, 10, 181, 0, 17, 44, 3, 181, 0, 11, 44, 21, 9, 181, 0, 21, 44, 180, 0, 17]
abbrev dktJ24_divideMagnitude_15 : List UInt8 := dkwJ24_divideMagnitude_15 ++ dktJ24_divideMagnitude_16
def dkwJ24_divideMagnitude_14 : List UInt8 := [180, 0, 21, 54, 8, 21, 8, 21, 5, 100, 4, 96, 54, 9, 44, 180, 0, 17, 190, 21, 9, 162, 0, 16]
abbrev dktJ24_divideMagnitude_14 : List UInt8 := dkwJ24_divideMagnitude_14 ++ dktJ24_divideMagnitude_15
def dkwJ24_divideMagnitude_13 : List UInt8 := [180, 0, 21, 184, 0, 95, 25, 7, 42, 180, 0, 21, 181, 0, 21, 25, 7, 4, 181, 0, 11, 25, 7]
abbrev dktJ24_divideMagnitude_13 : List UInt8 := dkwJ24_divideMagnitude_13 ++ dktJ24_divideMagnitude_14
def dkwJ24_divideMagnitude_12 : List UInt8 := [188, 10, 183, 1, 3, 58, 7, 42, 180, 0, 17, 42, 180, 0, 11, 25, 7, 180, 0, 17, 4, 42]
abbrev dktJ24_divideMagnitude_12 : List UInt8 := dkwJ24_divideMagnitude_12 ++ dktJ24_divideMagnitude_13
def dkwJ24_divideMagnitude_11 : List UInt8 := [180, 0, 11, 43, 180, 0, 21, 96, 184, 0, 33, 58, 6, 187, 0, 12, 89, 42, 180, 0, 21, 4, 96]
abbrev dktJ24_divideMagnitude_11 : List UInt8 := dkwJ24_divideMagnitude_11 ++ dktJ24_divideMagnitude_12
def dkwJ24_divideMagnitude_10 : List UInt8 := [180, 0, 21, 4, 96, 21, 10, 21, 4, 120, 79, 167, 0, 78, 43, 180, 0, 17, 43, 180, 0, 11, 43]
abbrev dktJ24_divideMagnitude_10 : List UInt8 := dkwJ24_divideMagnitude_10 ++ dktJ24_divideMagnitude_11
def dkwJ24_divideMagnitude_9 : List UInt8 := [21, 4, 120, 21, 10, 21, 11, 124, 128, 79, 132, 12, 1, 132, 9, 1, 167, 255, 210, 25, 8, 42]
abbrev dktJ24_divideMagnitude_9 : List UInt8 := dkwJ24_divideMagnitude_9 ++ dktJ24_divideMagnitude_10
def dkwJ24_divideMagnitude_8 : List UInt8 := [4, 96, 162, 0, 41, 21, 10, 54, 13, 42, 180, 0, 17, 21, 9, 46, 54, 10, 25, 8, 21, 12, 21, 13]
abbrev dktJ24_divideMagnitude_8 : List UInt8 := dkwJ24_divideMagnitude_8 ++ dktJ24_divideMagnitude_9
def dkwJ24_divideMagnitude_7 : List UInt8 := [180, 0, 11, 54, 9, 3, 54, 10, 16, 32, 21, 4, 100, 54, 11, 4, 54, 12, 21, 12, 42, 180, 0, 21]
abbrev dktJ24_divideMagnitude_7 : List UInt8 := dkwJ24_divideMagnitude_7 ++ dktJ24_divideMagnitude_8
def dkwJ24_divideMagnitude_6 : List UInt8 := [183, 1, 3, 58, 7, 25, 7, 42, 180, 0, 21, 4, 96, 181, 0, 21, 25, 7, 4, 181, 0, 11, 42]
abbrev dktJ24_divideMagnitude_6 : List UInt8 := dkwJ24_divideMagnitude_6 ++ dktJ24_divideMagnitude_7
def dkwJ24_divideMagnitude_5 : List UInt8 := [21, 4, 184, 1, 13, 167, 0, 201, 42, 180, 0, 21, 5, 96, 188, 10, 58, 8, 187, 0, 12, 89, 25, 8]
abbrev dktJ24_divideMagnitude_5 : List UInt8 := dkwJ24_divideMagnitude_5 ++ dktJ24_divideMagnitude_6
def dkwJ24_divideMagnitude_4 : List UInt8 := [181, 0, 21, 25, 7, 4, 181, 0, 11, 42, 180, 0, 17, 42, 180, 0, 11, 42, 180, 0, 21, 25, 8, 4]
abbrev dktJ24_divideMagnitude_4 : List UInt8 := dkwJ24_divideMagnitude_4 ++ dktJ24_divideMagnitude_5
def dkwJ24_divideMagnitude_3 : List UInt8 := [4, 96, 188, 10, 58, 8, 187, 0, 12, 89, 25, 8, 183, 1, 3, 58, 7, 25, 7, 42, 180, 0, 21]
abbrev dktJ24_divideMagnitude_3 : List UInt8 := dkwJ24_divideMagnitude_3 ++ dktJ24_divideMagnitude_4
def dkwJ24_divideMagnitude_2 : List UInt8 := [184, 1, 13, 42, 180, 0, 17, 42, 180, 0, 11, 46, 184, 0, 152, 21, 4, 161, 0, 62, 42, 180, 0, 21]
abbrev dktJ24_divideMagnitude_2 : List UInt8 := dkwJ24_divideMagnitude_2 ++ dktJ24_divideMagnitude_3
def dkwJ24_divideMagnitude_1 : List UInt8 := [158, 0, 226, 21, 5, 188, 10, 58, 6, 43, 180, 0, 17, 43, 180, 0, 11, 21, 5, 25, 6, 3, 21, 4]
abbrev dktJ24_divideMagnitude_1 : List UInt8 := dkwJ24_divideMagnitude_1 ++ dktJ24_divideMagnitude_2
def dkwJ24_divideMagnitude_0 : List UInt8 := [43, 180, 0, 17, 43, 180, 0, 11, 46, 184, 0, 152, 54, 4, 43, 180, 0, 21, 54, 5, 21, 4]
abbrev dktJ24_divideMagnitude_0 : List UInt8 := dkwJ24_divideMagnitude_0 ++ dktJ24_divideMagnitude_1
theorem dksJ24_divideMagnitude_0 : cJ24_divideMagnitude.data.toList.drop 0 = dktJ24_divideMagnitude_0 := by decide +kernel
theorem dksJ24_divideMagnitude_1 : cJ24_divideMagnitude.data.toList.drop 22 = dktJ24_divideMagnitude_1 := dk_seg dksJ24_divideMagnitude_0 22 rfl rfl
theorem dksJ24_divideMagnitude_2 : cJ24_divideMagnitude.data.toList.drop 46 = dktJ24_divideMagnitude_2 := dk_seg dksJ24_divideMagnitude_1 24 rfl rfl
theorem dksJ24_divideMagnitude_3 : cJ24_divideMagnitude.data.toList.drop 70 = dktJ24_divideMagnitude_3 := dk_seg dksJ24_divideMagnitude_2 24 rfl rfl
theorem dksJ24_divideMagnitude_4 : cJ24_divideMagnitude.data.toList.drop 93 = dktJ24_divideMagnitude_4 := dk_seg dksJ24_divideMagnitude_3 23 rfl rfl
theorem dksJ24_divideMagnitude_5 : cJ24_divideMagnitude.data.toList.drop 117 = dktJ24_divideMagnitude_5 := dk_seg dksJ24_divideMagnitude_4 24 rfl rfl
theorem dksJ24_divideMagnitude_6 : cJ24_divideMagnitude.data.toList.drop 141 = dktJ24_divideMagnitude_6 := dk_seg dksJ24_divideMagnitude_5 24 rfl rfl
theorem dksJ24_divideMagnitude_7 : cJ24_divideMagnitude.data.toList.drop 164 = dktJ24_divideMagnitude_7 := dk_seg dksJ24_divideMagnitude_6 23 rfl rfl
theorem dksJ24_divideMagnitude_8 : cJ24_divideMagnitude.data.toList.drop 188 = dktJ24_divideMagnitude_8 := dk_seg dksJ24_divideMagnitude_7 24 rfl rfl
theorem dksJ24_divideMagnitude_9 : cJ24_divideMagnitude.data.toList.drop 212 = dktJ24_divideMagnitude_9 := dk_seg dksJ24_divideMagnitude_8 24 rfl rfl
theorem dksJ24_divideMagnitude_10 : cJ24_divideMagnitude.data.toList.drop 234 = dktJ24_divideMagnitude_10 := dk_seg dksJ24_divideMagnitude_9 22 rfl rfl
theorem dksJ24_divideMagnitude_11 : cJ24_divideMagnitude.data.toList.drop 257 = dktJ24_divideMagnitude_11 := dk_seg dksJ24_divideMagnitude_10 23 rfl rfl
theorem dksJ24_divideMagnitude_12 : cJ24_divideMagnitude.data.toList.drop 280 = dktJ24_divideMagnitude_12 := dk_seg dksJ24_divideMagnitude_11 23 rfl rfl
theorem dksJ24_divideMagnitude_13 : cJ24_divideMagnitude.data.toList.drop 302 = dktJ24_divideMagnitude_13 := dk_seg dksJ24_divideMagnitude_12 22 rfl rfl
theorem dksJ24_divideMagnitude_14 : cJ24_divideMagnitude.data.toList.drop 325 = dktJ24_divideMagnitude_14 := dk_seg dksJ24_divideMagnitude_13 23 rfl rfl
theorem dksJ24_divideMagnitude_15 : cJ24_divideMagnitude.data.toList.drop 349 = dktJ24_divideMagnitude_15 := dk_seg dksJ24_divideMagnitude_14 24 rfl rfl
theorem dksJ24_divideMagnitude_16 : cJ24_divideMagnitude.data.toList.drop 372 = dktJ24_divideMagnitude_16 := dk_seg dksJ24_divideMagnitude_15 23 rfl rfl
theorem dksJ24_divideMagnitude_17 : cJ24_divideMagnitude.data.toList.drop 396 = dktJ24_divideMagnitude_17 := dk_seg dksJ24_divideMagnitude_16 24 rfl rfl
theorem dksJ24_divideMagnitude_18 : cJ24_divideMagnitude.data.toList.drop 420 = dktJ24_divideMagnitude_18 := dk_seg dksJ24_divideMagnitude_17 24 rfl rfl
theorem dksJ24_divideMagnitude_19 : cJ24_divideMagnitude.data.toList.drop 443 = dktJ24_divideMagnitude_19 := dk_seg dksJ24_divideMagnitude_18 23 rfl rfl
theorem dksJ24_divideMagnitude_20 : cJ24_divideMagnitude.data.toList.drop 466 = dktJ24_divideMagnitude_20 := dk_seg dksJ24_divideMagnitude_19 23 rfl rfl
theorem dksJ24_divideMagnitude_21 : cJ24_divideMagnitude.data.toList.drop 490 = dktJ24_divideMagnitude_21 := dk_seg dksJ24_divideMagnitude_20 24 rfl rfl
theorem dksJ24_divideMagnitude_22 : cJ24_divideMagnitude.data.toList.drop 514 = dktJ24_divideMagnitude_22 := dk_seg dksJ24_divideMagnitude_21 24 rfl rfl
theorem dksJ24_divideMagnitude_23 : cJ24_divideMagnitude.data.toList.drop 538 = dktJ24_divideMagnitude_23 := dk_seg dksJ24_divideMagnitude_22 24 rfl rfl
theorem dksJ24_divideMagnitude_24 : cJ24_divideMagnitude.data.toList.drop 562 = dktJ24_divideMagnitude_24 := dk_seg dksJ24_divideMagnitude_23 24 rfl rfl
theorem dksJ24_divideMagnitude_25 : cJ24_divideMagnitude.data.toList.drop 585 = dktJ24_divideMagnitude_25 := dk_seg dksJ24_divideMagnitude_24 23 rfl rfl
theorem dksJ24_divideMagnitude_26 : cJ24_divideMagnitude.data.toList.drop 609 = dktJ24_divideMagnitude_26 := dk_seg dksJ24_divideMagnitude_25 24 rfl rfl
theorem dksJ24_divideMagnitude_27 : cJ24_divideMagnitude.data.toList.drop 633 = dktJ24_divideMagnitude_27 := dk_seg dksJ24_divideMagnitude_26 24 rfl rfl
theorem dksJ24_divideMagnitude_28 : cJ24_divideMagnitude.data.toList.drop 657 = dktJ24_divideMagnitude_28 := dk_seg dksJ24_divideMagnitude_27 24 rfl rfl
theorem dksJ24_divideMagnitude_29 : cJ24_divideMagnitude.data.toList.drop 680 = dktJ24_divideMagnitude_29 := dk_seg dksJ24_divideMagnitude_28 23 rfl rfl
theorem dksJ24_divideMagnitude_30 : cJ24_divideMagnitude.data.toList.drop 704 = dktJ24_divideMagnitude_30 := dk_seg dksJ24_divideMagnitude_29 24 rfl rfl
theorem dksJ24_divideMagnitude_31 : cJ24_divideMagnitude.data.toList.drop 727 = dktJ24_divideMagnitude_31 := dk_seg dksJ24_divideMagnitude_30 23 rfl rfl
theorem dksJ24_divideMagnitude_32 : cJ24_divideMagnitude.data.toList.drop 749 = dktJ24_divideMagnitude_32 := dk_seg dksJ24_divideMagnitude_31 22 rfl rfl
theorem dksJ24_divideMagnitude_33 : cJ24_divideMagnitude.data.toList.drop 771 = dktJ24_divideMagnitude_33 := dk_seg dksJ24_divideMagnitude_32 22 rfl rfl
theorem dksJ24_divideMagnitude_34 : cJ24_divideMagnitude.data.toList.drop 795 = dktJ24_divideMagnitude_34 := dk_seg dksJ24_divideMagnitude_33 24 rfl rfl
theorem dksJ24_divideMagnitude_35 : cJ24_divideMagnitude.data.toList.drop 819 = dktJ24_divideMagnitude_35 := dk_seg dksJ24_divideMagnitude_34 24 rfl rfl
theorem dksJ24_divideMagnitude_36 : cJ24_divideMagnitude.data.toList.drop 842 = dktJ24_divideMagnitude_36 := dk_seg dksJ24_divideMagnitude_35 23 rfl rfl
theorem dksJ24_divideMagnitude_37 : cJ24_divideMagnitude.data.toList.drop 864 = dktJ24_divideMagnitude_37 := dk_seg dksJ24_divideMagnitude_36 22 rfl rfl
theorem dksJ24_divideMagnitude_38 : cJ24_divideMagnitude.data.toList.drop 888 = dktJ24_divideMagnitude_38 := dk_seg dksJ24_divideMagnitude_37 24 rfl rfl
theorem dksJ24_divideMagnitude_39 : cJ24_divideMagnitude.data.toList.drop 912 = dktJ24_divideMagnitude_39 := dk_seg dksJ24_divideMagnitude_38 24 rfl rfl
theorem dksJ24_divideMagnitude_40 : cJ24_divideMagnitude.data.toList.drop 935 = dktJ24_divideMagnitude_40 := dk_seg dksJ24_divideMagnitude_39 23 rfl rfl
theorem dksJ24_divideMagnitude_41 : cJ24_divideMagnitude.data.toList.drop 958 = dktJ24_divideMagnitude_41 := dk_seg dksJ24_divideMagnitude_40 23 rfl rfl
theorem dksJ24_divideMagnitude_42 : cJ24_divideMagnitude.data.toList.drop 981 = dktJ24_divideMagnitude_42 := dk_seg dksJ24_divideMagnitude_41 23 rfl rfl
theorem dksJ24_divideMagnitude_43 : cJ24_divideMagnitude.data.toList.drop 1005 = dktJ24_divideMagnitude_43 := dk_seg dksJ24_divideMagnitude_42 24 rfl rfl
theorem dksJ24_divideMagnitude_44 : cJ24_divideMagnitude.data.toList.drop 1029 = dktJ24_divideMagnitude_44 := dk_seg dksJ24_divideMagnitude_43 24 rfl rfl
theorem dksJ24_divideMagnitude_45 : cJ24_divideMagnitude.data.toList.drop 1053 = dktJ24_divideMagnitude_45 := dk_seg dksJ24_divideMagnitude_44 24 rfl rfl
theorem dksJ24_divideMagnitude_46 : cJ24_divideMagnitude.data.toList.drop 1077 = dktJ24_divideMagnitude_46 := dk_seg dksJ24_divideMagnitude_45 24 rfl rfl
theorem dksJ24_divideMagnitude_47 : cJ24_divideMagnitude.data.toList.drop 1101 = dktJ24_divideMagnitude_47 := dk_seg dksJ24_divideMagnitude_46 24 rfl rfl
theorem dksJ24_divideMagnitude_48 : cJ24_divideMagnitude.data.toList.drop 1124 = dktJ24_divideMagnitude_48 := dk_seg dksJ24_divideMagnitude_47 23 rfl rfl
theorem dksJ24_divideMagnitude_49 : cJ24_divideMagnitude.data.toList.drop 1148 = dktJ24_divideMagnitude_49 := dk_seg dksJ24_divideMagnitude_48 24 rfl rfl
theorem dksJ24_divideMagnitude_50 : cJ24_divideMagnitude.data.toList.drop 1172 = dktJ24_divideMagnitude_50 := dk_seg dksJ24_divideMagnitude_49 24 rfl rfl
theorem dksJ24_divideMagnitude_51 : cJ24_divideMagnitude.data.toList.drop 1196 = dktJ24_divideMagnitude_51 := dk_seg dksJ24_divideMagnitude_50 24 rfl rfl
theorem dksJ24_divideMagnitude_52 : cJ24_divideMagnitude.data.toList.drop 1218 = dktJ24_divideMagnitude_52 := dk_seg dksJ24_divideMagnitude_51 22 rfl rfl
theorem dksJ24_divideMagnitude_53 : cJ24_divideMagnitude.data.toList.drop 1241 = dktJ24_divideMagnitude_53 := dk_seg dksJ24_divideMagnitude_52 23 rfl rfl
theorem dksJ24_divideMagnitude_54 : cJ24_divideMagnitude.data.toList.drop 1265 = dktJ24_divideMagnitude_54 := dk_seg dksJ24_divideMagnitude_53 24 rfl rfl
theorem dksJ24_divideMagnitude_55 : cJ24_divideMagnitude.data.toList.drop 1287 = dktJ24_divideMagnitude_55 := dk_seg dksJ24_divideMagnitude_54 22 rfl rfl
theorem dJ24_divideMagnitude_0 : decode cJ24_divideMagnitude 0 = .ok (.aload_n 1, 1) := dk_43 (dk_at dksJ24_divideMagnitude_0 0 rfl rfl)
theorem dJ24_divideMagnitude_1 : decode cJ24_divideMagnitude 1 = .ok (.getfield 17, 3) := dk_180 0 17 (dk_at dksJ24_divideMagnitude_0 1 rfl rfl)
theorem dJ24_divideMagnitude_4 : decode cJ24_divideMagnitude 4 = .ok (.aload_n 1, 1) := dk_43 (dk_at dksJ24_divideMagnitude_0 4 rfl rfl)
theorem dJ24_divideMagnitude_5 : decode cJ24_divideMagnitude 5 = .ok (.getfield 11, 3) := dk_180 0 11 (dk_at dksJ24_divideMagnitude_0 5 rfl rfl)
theorem dJ24_divideMagnitude_8 : decode cJ24_divideMagnitude 8 = .ok (.iaload, 1) := dk_46 (dk_at dksJ24_divideMagnitude_0 8 rfl rfl)
theorem dJ24_divideMagnitude_9 : decode cJ24_divideMagnitude 9 = .ok (.invokestatic 152, 3) := dk_184 0 152 (dk_at dksJ24_divideMagnitude_0 9 rfl rfl)
theorem dJ24_divideMagnitude_12 : decode cJ24_divideMagnitude 12 = .ok (.istore 4, 2) := dk_54 4 (dk_at dksJ24_divideMagnitude_0 12 rfl rfl)
theorem dJ24_divideMagnitude_14 : decode cJ24_divideMagnitude 14 = .ok (.aload_n 1, 1) := dk_43 (dk_at dksJ24_divideMagnitude_0 14 rfl rfl)
theorem dJ24_divideMagnitude_15 : decode cJ24_divideMagnitude 15 = .ok (.getfield 21, 3) := dk_180 0 21 (dk_at dksJ24_divideMagnitude_0 15 rfl rfl)
theorem dJ24_divideMagnitude_18 : decode cJ24_divideMagnitude 18 = .ok (.istore 5, 2) := dk_54 5 (dk_at dksJ24_divideMagnitude_0 18 rfl rfl)
theorem dJ24_divideMagnitude_20 : decode cJ24_divideMagnitude 20 = .ok (.iload 4, 2) := dk_21 4 (dk_at dksJ24_divideMagnitude_0 20 rfl rfl)
theorem dJ24_divideMagnitude_22 : decode cJ24_divideMagnitude 22 = .ok (.ifCond .le 226, 3) := dk_158 0 226 (dk_at dksJ24_divideMagnitude_1 0 rfl rfl)
theorem dJ24_divideMagnitude_25 : decode cJ24_divideMagnitude 25 = .ok (.iload 5, 2) := dk_21 5 (dk_at dksJ24_divideMagnitude_1 3 rfl rfl)
theorem dJ24_divideMagnitude_27 : decode cJ24_divideMagnitude 27 = .ok (.newarray .int, 2) := dk_188_10 (dk_at dksJ24_divideMagnitude_1 5 rfl rfl)
theorem dJ24_divideMagnitude_29 : decode cJ24_divideMagnitude 29 = .ok (.astore 6, 2) := dk_58 6 (dk_at dksJ24_divideMagnitude_1 7 rfl rfl)
theorem dJ24_divideMagnitude_31 : decode cJ24_divideMagnitude 31 = .ok (.aload_n 1, 1) := dk_43 (dk_at dksJ24_divideMagnitude_1 9 rfl rfl)
theorem dJ24_divideMagnitude_32 : decode cJ24_divideMagnitude 32 = .ok (.getfield 17, 3) := dk_180 0 17 (dk_at dksJ24_divideMagnitude_1 10 rfl rfl)
theorem dJ24_divideMagnitude_35 : decode cJ24_divideMagnitude 35 = .ok (.aload_n 1, 1) := dk_43 (dk_at dksJ24_divideMagnitude_1 13 rfl rfl)
theorem dJ24_divideMagnitude_36 : decode cJ24_divideMagnitude 36 = .ok (.getfield 11, 3) := dk_180 0 11 (dk_at dksJ24_divideMagnitude_1 14 rfl rfl)
theorem dJ24_divideMagnitude_39 : decode cJ24_divideMagnitude 39 = .ok (.iload 5, 2) := dk_21 5 (dk_at dksJ24_divideMagnitude_1 17 rfl rfl)
theorem dJ24_divideMagnitude_41 : decode cJ24_divideMagnitude 41 = .ok (.aload 6, 2) := dk_25 6 (dk_at dksJ24_divideMagnitude_1 19 rfl rfl)
theorem dJ24_divideMagnitude_43 : decode cJ24_divideMagnitude 43 = .ok (.iconst 0, 1) := dk_3 (dk_at dksJ24_divideMagnitude_1 21 rfl rfl)
theorem dJ24_divideMagnitude_44 : decode cJ24_divideMagnitude 44 = .ok (.iload 4, 2) := dk_21 4 (dk_at dksJ24_divideMagnitude_1 22 rfl rfl)
theorem dJ24_divideMagnitude_46 : decode cJ24_divideMagnitude 46 = .ok (.invokestatic 269, 3) := dk_184 1 13 (dk_at dksJ24_divideMagnitude_2 0 rfl rfl)
theorem dJ24_divideMagnitude_49 : decode cJ24_divideMagnitude 49 = .ok (.aload_n 0, 1) := dk_42 (dk_at dksJ24_divideMagnitude_2 3 rfl rfl)
theorem dJ24_divideMagnitude_50 : decode cJ24_divideMagnitude 50 = .ok (.getfield 17, 3) := dk_180 0 17 (dk_at dksJ24_divideMagnitude_2 4 rfl rfl)
theorem dJ24_divideMagnitude_53 : decode cJ24_divideMagnitude 53 = .ok (.aload_n 0, 1) := dk_42 (dk_at dksJ24_divideMagnitude_2 7 rfl rfl)
theorem dJ24_divideMagnitude_54 : decode cJ24_divideMagnitude 54 = .ok (.getfield 11, 3) := dk_180 0 11 (dk_at dksJ24_divideMagnitude_2 8 rfl rfl)
theorem dJ24_divideMagnitude_57 : decode cJ24_divideMagnitude 57 = .ok (.iaload, 1) := dk_46 (dk_at dksJ24_divideMagnitude_2 11 rfl rfl)
theorem dJ24_divideMagnitude_58 : decode cJ24_divideMagnitude 58 = .ok (.invokestatic 152, 3) := dk_184 0 152 (dk_at dksJ24_divideMagnitude_2 12 rfl rfl)
theorem dJ24_divideMagnitude_61 : decode cJ24_divideMagnitude 61 = .ok (.iload 4, 2) := dk_21 4 (dk_at dksJ24_divideMagnitude_2 15 rfl rfl)
theorem dJ24_divideMagnitude_63 : decode cJ24_divideMagnitude 63 = .ok (.if_icmp .lt 62, 3) := dk_161 0 62 (dk_at dksJ24_divideMagnitude_2 17 rfl rfl)
theorem dJ24_divideMagnitude_66 : decode cJ24_divideMagnitude 66 = .ok (.aload_n 0, 1) := dk_42 (dk_at dksJ24_divideMagnitude_2 20 rfl rfl)
theorem dJ24_divideMagnitude_67 : decode cJ24_divideMagnitude 67 = .ok (.getfield 21, 3) := dk_180 0 21 (dk_at dksJ24_divideMagnitude_2 21 rfl rfl)
theorem dJ24_divideMagnitude_70 : decode cJ24_divideMagnitude 70 = .ok (.iconst 1, 1) := dk_4 (dk_at dksJ24_divideMagnitude_3 0 rfl rfl)
theorem dJ24_divideMagnitude_71 : decode cJ24_divideMagnitude 71 = .ok (.iadd, 1) := dk_96 (dk_at dksJ24_divideMagnitude_3 1 rfl rfl)
theorem dJ24_divideMagnitude_72 : decode cJ24_divideMagnitude 72 = .ok (.newarray .int, 2) := dk_188_10 (dk_at dksJ24_divideMagnitude_3 2 rfl rfl)
theorem dJ24_divideMagnitude_74 : decode cJ24_divideMagnitude 74 = .ok (.astore 8, 2) := dk_58 8 (dk_at dksJ24_divideMagnitude_3 4 rfl rfl)
theorem dJ24_divideMagnitude_76 : decode cJ24_divideMagnitude 76 = .ok (.new 12, 3) := dk_187 0 12 (dk_at dksJ24_divideMagnitude_3 6 rfl rfl)
theorem dJ24_divideMagnitude_79 : decode cJ24_divideMagnitude 79 = .ok (.dup, 1) := dk_89 (dk_at dksJ24_divideMagnitude_3 9 rfl rfl)
theorem dJ24_divideMagnitude_80 : decode cJ24_divideMagnitude 80 = .ok (.aload 8, 2) := dk_25 8 (dk_at dksJ24_divideMagnitude_3 10 rfl rfl)
theorem dJ24_divideMagnitude_82 : decode cJ24_divideMagnitude 82 = .ok (.invokespecial 259, 3) := dk_183 1 3 (dk_at dksJ24_divideMagnitude_3 12 rfl rfl)
theorem dJ24_divideMagnitude_85 : decode cJ24_divideMagnitude 85 = .ok (.astore 7, 2) := dk_58 7 (dk_at dksJ24_divideMagnitude_3 15 rfl rfl)
theorem dJ24_divideMagnitude_87 : decode cJ24_divideMagnitude 87 = .ok (.aload 7, 2) := dk_25 7 (dk_at dksJ24_divideMagnitude_3 17 rfl rfl)
theorem dJ24_divideMagnitude_89 : decode cJ24_divideMagnitude 89 = .ok (.aload_n 0, 1) := dk_42 (dk_at dksJ24_divideMagnitude_3 19 rfl rfl)
theorem dJ24_divideMagnitude_90 : decode cJ24_divideMagnitude 90 = .ok (.getfield 21, 3) := dk_180 0 21 (dk_at dksJ24_divideMagnitude_3 20 rfl rfl)
theorem dJ24_divideMagnitude_93 : decode cJ24_divideMagnitude 93 = .ok (.putfield 21, 3) := dk_181 0 21 (dk_at dksJ24_divideMagnitude_4 0 rfl rfl)
theorem dJ24_divideMagnitude_96 : decode cJ24_divideMagnitude 96 = .ok (.aload 7, 2) := dk_25 7 (dk_at dksJ24_divideMagnitude_4 3 rfl rfl)
theorem dJ24_divideMagnitude_98 : decode cJ24_divideMagnitude 98 = .ok (.iconst 1, 1) := dk_4 (dk_at dksJ24_divideMagnitude_4 5 rfl rfl)
theorem dJ24_divideMagnitude_99 : decode cJ24_divideMagnitude 99 = .ok (.putfield 11, 3) := dk_181 0 11 (dk_at dksJ24_divideMagnitude_4 6 rfl rfl)
theorem dJ24_divideMagnitude_102 : decode cJ24_divideMagnitude 102 = .ok (.aload_n 0, 1) := dk_42 (dk_at dksJ24_divideMagnitude_4 9 rfl rfl)
theorem dJ24_divideMagnitude_103 : decode cJ24_divideMagnitude 103 = .ok (.getfield 17, 3) := dk_180 0 17 (dk_at dksJ24_divideMagnitude_4 10 rfl rfl)
theorem dJ24_divideMagnitude_106 : decode cJ24_divideMagnitude 106 = .ok (.aload_n 0, 1) := dk_42 (dk_at dksJ24_divideMagnitude_4 13 rfl rfl)
theorem dJ24_divideMagnitude_107 : decode cJ24_divideMagnitude 107 = .ok (.getfield 11, 3) := dk_180 0 11 (dk_at dksJ24_divideMagnitude_4 14 rfl rfl)
theorem dJ24_divideMagnitude_110 : decode cJ24_divideMagnitude 110 = .ok (.aload_n 0, 1) := dk_42 (dk_at dksJ24_divideMagnitude_4 17 rfl rfl)
theorem dJ24_divideMagnitude_111 : decode cJ24_divideMagnitude 111 = .ok (.getfield 21, 3) := dk_180 0 21 (dk_at dksJ24_divideMagnitude_4 18 rfl rfl)
theorem dJ24_divideMagnitude_114 : decode cJ24_divideMagnitude 114 = .ok (.aload 8, 2) := dk_25 8 (dk_at dksJ24_divideMagnitude_4 21 rfl rfl)
theorem dJ24_divideMagnitude_116 : decode cJ24_divideMagnitude 116 = .ok (.iconst 1, 1) := dk_4 (dk_at dksJ24_divideMagnitude_4 23 rfl rfl)
theorem dJ24_divideMagnitude_117 : decode cJ24_divideMagnitude 117 = .ok (.iload 4, 2) := dk_21 4 (dk_at dksJ24_divideMagnitude_5 0 rfl rfl)
theorem dJ24_divideMagnitude_119 : decode cJ24_divideMagnitude 119 = .ok (.invokestatic 269, 3) := dk_184 1 13 (dk_at dksJ24_divideMagnitude_5 2 rfl rfl)
theorem dJ24_divideMagnitude_122 : decode cJ24_divideMagnitude 122 = .ok (.goto 201, 3) := dk_167 0 201 (dk_at dksJ24_divideMagnitude_5 5 rfl rfl)
theorem dJ24_divideMagnitude_125 : decode cJ24_divideMagnitude 125 = .ok (.aload_n 0, 1) := dk_42 (dk_at dksJ24_divideMagnitude_5 8 rfl rfl)
theorem dJ24_divideMagnitude_126 : decode cJ24_divideMagnitude 126 = .ok (.getfield 21, 3) := dk_180 0 21 (dk_at dksJ24_divideMagnitude_5 9 rfl rfl)
theorem dJ24_divideMagnitude_129 : decode cJ24_divideMagnitude 129 = .ok (.iconst 2, 1) := dk_5 (dk_at dksJ24_divideMagnitude_5 12 rfl rfl)
theorem dJ24_divideMagnitude_130 : decode cJ24_divideMagnitude 130 = .ok (.iadd, 1) := dk_96 (dk_at dksJ24_divideMagnitude_5 13 rfl rfl)
theorem dJ24_divideMagnitude_131 : decode cJ24_divideMagnitude 131 = .ok (.newarray .int, 2) := dk_188_10 (dk_at dksJ24_divideMagnitude_5 14 rfl rfl)
theorem dJ24_divideMagnitude_133 : decode cJ24_divideMagnitude 133 = .ok (.astore 8, 2) := dk_58 8 (dk_at dksJ24_divideMagnitude_5 16 rfl rfl)
theorem dJ24_divideMagnitude_135 : decode cJ24_divideMagnitude 135 = .ok (.new 12, 3) := dk_187 0 12 (dk_at dksJ24_divideMagnitude_5 18 rfl rfl)
theorem dJ24_divideMagnitude_138 : decode cJ24_divideMagnitude 138 = .ok (.dup, 1) := dk_89 (dk_at dksJ24_divideMagnitude_5 21 rfl rfl)
theorem dJ24_divideMagnitude_139 : decode cJ24_divideMagnitude 139 = .ok (.aload 8, 2) := dk_25 8 (dk_at dksJ24_divideMagnitude_5 22 rfl rfl)
theorem dJ24_divideMagnitude_141 : decode cJ24_divideMagnitude 141 = .ok (.invokespecial 259, 3) := dk_183 1 3 (dk_at dksJ24_divideMagnitude_6 0 rfl rfl)
theorem dJ24_divideMagnitude_144 : decode cJ24_divideMagnitude 144 = .ok (.astore 7, 2) := dk_58 7 (dk_at dksJ24_divideMagnitude_6 3 rfl rfl)
theorem dJ24_divideMagnitude_146 : decode cJ24_divideMagnitude 146 = .ok (.aload 7, 2) := dk_25 7 (dk_at dksJ24_divideMagnitude_6 5 rfl rfl)
theorem dJ24_divideMagnitude_148 : decode cJ24_divideMagnitude 148 = .ok (.aload_n 0, 1) := dk_42 (dk_at dksJ24_divideMagnitude_6 7 rfl rfl)
theorem dJ24_divideMagnitude_149 : decode cJ24_divideMagnitude 149 = .ok (.getfield 21, 3) := dk_180 0 21 (dk_at dksJ24_divideMagnitude_6 8 rfl rfl)
theorem dJ24_divideMagnitude_152 : decode cJ24_divideMagnitude 152 = .ok (.iconst 1, 1) := dk_4 (dk_at dksJ24_divideMagnitude_6 11 rfl rfl)
theorem dJ24_divideMagnitude_153 : decode cJ24_divideMagnitude 153 = .ok (.iadd, 1) := dk_96 (dk_at dksJ24_divideMagnitude_6 12 rfl rfl)
theorem dJ24_divideMagnitude_154 : decode cJ24_divideMagnitude 154 = .ok (.putfield 21, 3) := dk_181 0 21 (dk_at dksJ24_divideMagnitude_6 13 rfl rfl)
theorem dJ24_divideMagnitude_157 : decode cJ24_divideMagnitude 157 = .ok (.aload 7, 2) := dk_25 7 (dk_at dksJ24_divideMagnitude_6 16 rfl rfl)
theorem dJ24_divideMagnitude_159 : decode cJ24_divideMagnitude 159 = .ok (.iconst 1, 1) := dk_4 (dk_at dksJ24_divideMagnitude_6 18 rfl rfl)
theorem dJ24_divideMagnitude_160 : decode cJ24_divideMagnitude 160 = .ok (.putfield 11, 3) := dk_181 0 11 (dk_at dksJ24_divideMagnitude_6 19 rfl rfl)
theorem dJ24_divideMagnitude_163 : decode cJ24_divideMagnitude 163 = .ok (.aload_n 0, 1) := dk_42 (dk_at dksJ24_divideMagnitude_6 22 rfl rfl)
theorem dJ24_divideMagnitude_164 : decode cJ24_divideMagnitude 164 = .ok (.getfield 11, 3) := dk_180 0 11 (dk_at dksJ24_divideMagnitude_7 0 rfl rfl)
theorem dJ24_divideMagnitude_167 : decode cJ24_divideMagnitude 167 = .ok (.istore 9, 2) := dk_54 9 (dk_at dksJ24_divideMagnitude_7 3 rfl rfl)
theorem dJ24_divideMagnitude_169 : decode cJ24_divideMagnitude 169 = .ok (.iconst 0, 1) := dk_3 (dk_at dksJ24_divideMagnitude_7 5 rfl rfl)
theorem dJ24_divideMagnitude_170 : decode cJ24_divideMagnitude 170 = .ok (.istore 10, 2) := dk_54 10 (dk_at dksJ24_divideMagnitude_7 6 rfl rfl)
theorem dJ24_divideMagnitude_172 : decode cJ24_divideMagnitude 172 = .ok (.bipush 32, 2) := dk_16 32 (dk_at dksJ24_divideMagnitude_7 8 rfl rfl)
theorem dJ24_divideMagnitude_174 : decode cJ24_divideMagnitude 174 = .ok (.iload 4, 2) := dk_21 4 (dk_at dksJ24_divideMagnitude_7 10 rfl rfl)
theorem dJ24_divideMagnitude_176 : decode cJ24_divideMagnitude 176 = .ok (.isub, 1) := dk_100 (dk_at dksJ24_divideMagnitude_7 12 rfl rfl)
theorem dJ24_divideMagnitude_177 : decode cJ24_divideMagnitude 177 = .ok (.istore 11, 2) := dk_54 11 (dk_at dksJ24_divideMagnitude_7 13 rfl rfl)
theorem dJ24_divideMagnitude_179 : decode cJ24_divideMagnitude 179 = .ok (.iconst 1, 1) := dk_4 (dk_at dksJ24_divideMagnitude_7 15 rfl rfl)
theorem dJ24_divideMagnitude_180 : decode cJ24_divideMagnitude 180 = .ok (.istore 12, 2) := dk_54 12 (dk_at dksJ24_divideMagnitude_7 16 rfl rfl)
theorem dJ24_divideMagnitude_182 : decode cJ24_divideMagnitude 182 = .ok (.iload 12, 2) := dk_21 12 (dk_at dksJ24_divideMagnitude_7 18 rfl rfl)
theorem dJ24_divideMagnitude_184 : decode cJ24_divideMagnitude 184 = .ok (.aload_n 0, 1) := dk_42 (dk_at dksJ24_divideMagnitude_7 20 rfl rfl)
theorem dJ24_divideMagnitude_185 : decode cJ24_divideMagnitude 185 = .ok (.getfield 21, 3) := dk_180 0 21 (dk_at dksJ24_divideMagnitude_7 21 rfl rfl)
theorem dJ24_divideMagnitude_188 : decode cJ24_divideMagnitude 188 = .ok (.iconst 1, 1) := dk_4 (dk_at dksJ24_divideMagnitude_8 0 rfl rfl)
theorem dJ24_divideMagnitude_189 : decode cJ24_divideMagnitude 189 = .ok (.iadd, 1) := dk_96 (dk_at dksJ24_divideMagnitude_8 1 rfl rfl)
theorem dJ24_divideMagnitude_190 : decode cJ24_divideMagnitude 190 = .ok (.if_icmp .ge 41, 3) := dk_162 0 41 (dk_at dksJ24_divideMagnitude_8 2 rfl rfl)
theorem dJ24_divideMagnitude_193 : decode cJ24_divideMagnitude 193 = .ok (.iload 10, 2) := dk_21 10 (dk_at dksJ24_divideMagnitude_8 5 rfl rfl)
theorem dJ24_divideMagnitude_195 : decode cJ24_divideMagnitude 195 = .ok (.istore 13, 2) := dk_54 13 (dk_at dksJ24_divideMagnitude_8 7 rfl rfl)
theorem dJ24_divideMagnitude_197 : decode cJ24_divideMagnitude 197 = .ok (.aload_n 0, 1) := dk_42 (dk_at dksJ24_divideMagnitude_8 9 rfl rfl)
theorem dJ24_divideMagnitude_198 : decode cJ24_divideMagnitude 198 = .ok (.getfield 17, 3) := dk_180 0 17 (dk_at dksJ24_divideMagnitude_8 10 rfl rfl)
theorem dJ24_divideMagnitude_201 : decode cJ24_divideMagnitude 201 = .ok (.iload 9, 2) := dk_21 9 (dk_at dksJ24_divideMagnitude_8 13 rfl rfl)
theorem dJ24_divideMagnitude_203 : decode cJ24_divideMagnitude 203 = .ok (.iaload, 1) := dk_46 (dk_at dksJ24_divideMagnitude_8 15 rfl rfl)
theorem dJ24_divideMagnitude_204 : decode cJ24_divideMagnitude 204 = .ok (.istore 10, 2) := dk_54 10 (dk_at dksJ24_divideMagnitude_8 16 rfl rfl)
theorem dJ24_divideMagnitude_206 : decode cJ24_divideMagnitude 206 = .ok (.aload 8, 2) := dk_25 8 (dk_at dksJ24_divideMagnitude_8 18 rfl rfl)
theorem dJ24_divideMagnitude_208 : decode cJ24_divideMagnitude 208 = .ok (.iload 12, 2) := dk_21 12 (dk_at dksJ24_divideMagnitude_8 20 rfl rfl)
theorem dJ24_divideMagnitude_210 : decode cJ24_divideMagnitude 210 = .ok (.iload 13, 2) := dk_21 13 (dk_at dksJ24_divideMagnitude_8 22 rfl rfl)
theorem dJ24_divideMagnitude_212 : decode cJ24_divideMagnitude 212 = .ok (.iload 4, 2) := dk_21 4 (dk_at dksJ24_divideMagnitude_9 0 rfl rfl)
theorem dJ24_divideMagnitude_214 : decode cJ24_divideMagnitude 214 = .ok (.ishl, 1) := dk_120 (dk_at dksJ24_divideMagnitude_9 2 rfl rfl)
theorem dJ24_divideMagnitude_215 : decode cJ24_divideMagnitude 215 = .ok (.iload 10, 2) := dk_21 10 (dk_at dksJ24_divideMagnitude_9 3 rfl rfl)
theorem dJ24_divideMagnitude_217 : decode cJ24_divideMagnitude 217 = .ok (.iload 11, 2) := dk_21 11 (dk_at dksJ24_divideMagnitude_9 5 rfl rfl)
theorem dJ24_divideMagnitude_219 : decode cJ24_divideMagnitude 219 = .ok (.iushr, 1) := dk_124 (dk_at dksJ24_divideMagnitude_9 7 rfl rfl)
theorem dJ24_divideMagnitude_220 : decode cJ24_divideMagnitude 220 = .ok (.ior, 1) := dk_128 (dk_at dksJ24_divideMagnitude_9 8 rfl rfl)
theorem dJ24_divideMagnitude_221 : decode cJ24_divideMagnitude 221 = .ok (.iastore, 1) := dk_79 (dk_at dksJ24_divideMagnitude_9 9 rfl rfl)
theorem dJ24_divideMagnitude_222 : decode cJ24_divideMagnitude 222 = .ok (.iinc 12 1, 3) := dk_132 12 1 (dk_at dksJ24_divideMagnitude_9 10 rfl rfl)
theorem dJ24_divideMagnitude_225 : decode cJ24_divideMagnitude 225 = .ok (.iinc 9 1, 3) := dk_132 9 1 (dk_at dksJ24_divideMagnitude_9 13 rfl rfl)
theorem dJ24_divideMagnitude_228 : decode cJ24_divideMagnitude 228 = .ok (.goto (-46), 3) := dk_167 255 210 (dk_at dksJ24_divideMagnitude_9 16 rfl rfl)
theorem dJ24_divideMagnitude_231 : decode cJ24_divideMagnitude 231 = .ok (.aload 8, 2) := dk_25 8 (dk_at dksJ24_divideMagnitude_9 19 rfl rfl)
theorem dJ24_divideMagnitude_233 : decode cJ24_divideMagnitude 233 = .ok (.aload_n 0, 1) := dk_42 (dk_at dksJ24_divideMagnitude_9 21 rfl rfl)
theorem dJ24_divideMagnitude_234 : decode cJ24_divideMagnitude 234 = .ok (.getfield 21, 3) := dk_180 0 21 (dk_at dksJ24_divideMagnitude_10 0 rfl rfl)
theorem dJ24_divideMagnitude_237 : decode cJ24_divideMagnitude 237 = .ok (.iconst 1, 1) := dk_4 (dk_at dksJ24_divideMagnitude_10 3 rfl rfl)
theorem dJ24_divideMagnitude_238 : decode cJ24_divideMagnitude 238 = .ok (.iadd, 1) := dk_96 (dk_at dksJ24_divideMagnitude_10 4 rfl rfl)
theorem dJ24_divideMagnitude_239 : decode cJ24_divideMagnitude 239 = .ok (.iload 10, 2) := dk_21 10 (dk_at dksJ24_divideMagnitude_10 5 rfl rfl)
theorem dJ24_divideMagnitude_241 : decode cJ24_divideMagnitude 241 = .ok (.iload 4, 2) := dk_21 4 (dk_at dksJ24_divideMagnitude_10 7 rfl rfl)
theorem dJ24_divideMagnitude_243 : decode cJ24_divideMagnitude 243 = .ok (.ishl, 1) := dk_120 (dk_at dksJ24_divideMagnitude_10 9 rfl rfl)
theorem dJ24_divideMagnitude_244 : decode cJ24_divideMagnitude 244 = .ok (.iastore, 1) := dk_79 (dk_at dksJ24_divideMagnitude_10 10 rfl rfl)
theorem dJ24_divideMagnitude_245 : decode cJ24_divideMagnitude 245 = .ok (.goto 78, 3) := dk_167 0 78 (dk_at dksJ24_divideMagnitude_10 11 rfl rfl)
theorem dJ24_divideMagnitude_248 : decode cJ24_divideMagnitude 248 = .ok (.aload_n 1, 1) := dk_43 (dk_at dksJ24_divideMagnitude_10 14 rfl rfl)
theorem dJ24_divideMagnitude_249 : decode cJ24_divideMagnitude 249 = .ok (.getfield 17, 3) := dk_180 0 17 (dk_at dksJ24_divideMagnitude_10 15 rfl rfl)
theorem dJ24_divideMagnitude_252 : decode cJ24_divideMagnitude 252 = .ok (.aload_n 1, 1) := dk_43 (dk_at dksJ24_divideMagnitude_10 18 rfl rfl)
theorem dJ24_divideMagnitude_253 : decode cJ24_divideMagnitude 253 = .ok (.getfield 11, 3) := dk_180 0 11 (dk_at dksJ24_divideMagnitude_10 19 rfl rfl)
theorem dJ24_divideMagnitude_256 : decode cJ24_divideMagnitude 256 = .ok (.aload_n 1, 1) := dk_43 (dk_at dksJ24_divideMagnitude_10 22 rfl rfl)
theorem dJ24_divideMagnitude_257 : decode cJ24_divideMagnitude 257 = .ok (.getfield 11, 3) := dk_180 0 11 (dk_at dksJ24_divideMagnitude_11 0 rfl rfl)
theorem dJ24_divideMagnitude_260 : decode cJ24_divideMagnitude 260 = .ok (.aload_n 1, 1) := dk_43 (dk_at dksJ24_divideMagnitude_11 3 rfl rfl)
theorem dJ24_divideMagnitude_261 : decode cJ24_divideMagnitude 261 = .ok (.getfield 21, 3) := dk_180 0 21 (dk_at dksJ24_divideMagnitude_11 4 rfl rfl)
theorem dJ24_divideMagnitude_264 : decode cJ24_divideMagnitude 264 = .ok (.iadd, 1) := dk_96 (dk_at dksJ24_divideMagnitude_11 7 rfl rfl)
theorem dJ24_divideMagnitude_265 : decode cJ24_divideMagnitude 265 = .ok (.invokestatic 33, 3) := dk_184 0 33 (dk_at dksJ24_divideMagnitude_11 8 rfl rfl)
theorem dJ24_divideMagnitude_268 : decode cJ24_divideMagnitude 268 = .ok (.astore 6, 2) := dk_58 6 (dk_at dksJ24_divideMagnitude_11 11 rfl rfl)
theorem dJ24_divideMagnitude_270 : decode cJ24_divideMagnitude 270 = .ok (.new 12, 3) := dk_187 0 12 (dk_at dksJ24_divideMagnitude_11 13 rfl rfl)
theorem dJ24_divideMagnitude_273 : decode cJ24_divideMagnitude 273 = .ok (.dup, 1) := dk_89 (dk_at dksJ24_divideMagnitude_11 16 rfl rfl)
theorem dJ24_divideMagnitude_274 : decode cJ24_divideMagnitude 274 = .ok (.aload_n 0, 1) := dk_42 (dk_at dksJ24_divideMagnitude_11 17 rfl rfl)
theorem dJ24_divideMagnitude_275 : decode cJ24_divideMagnitude 275 = .ok (.getfield 21, 3) := dk_180 0 21 (dk_at dksJ24_divideMagnitude_11 18 rfl rfl)
theorem dJ24_divideMagnitude_278 : decode cJ24_divideMagnitude 278 = .ok (.iconst 1, 1) := dk_4 (dk_at dksJ24_divideMagnitude_11 21 rfl rfl)
theorem dJ24_divideMagnitude_279 : decode cJ24_divideMagnitude 279 = .ok (.iadd, 1) := dk_96 (dk_at dksJ24_divideMagnitude_11 22 rfl rfl)
theorem dJ24_divideMagnitude_280 : decode cJ24_divideMagnitude 280 = .ok (.newarray .int, 2) := dk_188_10 (dk_at dksJ24_divideMagnitude_12 0 rfl rfl)
theorem dJ24_divideMagnitude_282 : decode cJ24_divideMagnitude 282 = .ok (.invokespecial 259, 3) := dk_183 1 3 (dk_at dksJ24_divideMagnitude_12 2 rfl rfl)
theorem dJ24_divideMagnitude_285 : decode cJ24_divideMagnitude 285 = .ok (.astore 7, 2) := dk_58 7 (dk_at dksJ24_divideMagnitude_12 5 rfl rfl)
theorem dJ24_divideMagnitude_287 : decode cJ24_divideMagnitude 287 = .ok (.aload_n 0, 1) := dk_42 (dk_at dksJ24_divideMagnitude_12 7 rfl rfl)
theorem dJ24_divideMagnitude_288 : decode cJ24_divideMagnitude 288 = .ok (.getfield 17, 3) := dk_180 0 17 (dk_at dksJ24_divideMagnitude_12 8 rfl rfl)
theorem dJ24_divideMagnitude_291 : decode cJ24_divideMagnitude 291 = .ok (.aload_n 0, 1) := dk_42 (dk_at dksJ24_divideMagnitude_12 11 rfl rfl)
theorem dJ24_divideMagnitude_292 : decode cJ24_divideMagnitude 292 = .ok (.getfield 11, 3) := dk_180 0 11 (dk_at dksJ24_divideMagnitude_12 12 rfl rfl)
theorem dJ24_divideMagnitude_295 : decode cJ24_divideMagnitude 295 = .ok (.aload 7, 2) := dk_25 7 (dk_at dksJ24_divideMagnitude_12 15 rfl rfl)
theorem dJ24_divideMagnitude_297 : decode cJ24_divideMagnitude 297 = .ok (.getfield 17, 3) := dk_180 0 17 (dk_at dksJ24_divideMagnitude_12 17 rfl rfl)
theorem dJ24_divideMagnitude_300 : decode cJ24_divideMagnitude 300 = .ok (.iconst 1, 1) := dk_4 (dk_at dksJ24_divideMagnitude_12 20 rfl rfl)
theorem dJ24_divideMagnitude_301 : decode cJ24_divideMagnitude 301 = .ok (.aload_n 0, 1) := dk_42 (dk_at dksJ24_divideMagnitude_12 21 rfl rfl)
theorem dJ24_divideMagnitude_302 : decode cJ24_divideMagnitude 302 = .ok (.getfield 21, 3) := dk_180 0 21 (dk_at dksJ24_divideMagnitude_13 0 rfl rfl)
theorem dJ24_divideMagnitude_305 : decode cJ24_divideMagnitude 305 = .ok (.invokestatic 95, 3) := dk_184 0 95 (dk_at dksJ24_divideMagnitude_13 3 rfl rfl)
theorem dJ24_divideMagnitude_308 : decode cJ24_divideMagnitude 308 = .ok (.aload 7, 2) := dk_25 7 (dk_at dksJ24_divideMagnitude_13 6 rfl rfl)
theorem dJ24_divideMagnitude_310 : decode cJ24_divideMagnitude 310 = .ok (.aload_n 0, 1) := dk_42 (dk_at dksJ24_divideMagnitude_13 8 rfl rfl)
theorem dJ24_divideMagnitude_311 : decode cJ24_divideMagnitude 311 = .ok (.getfield 21, 3) := dk_180 0 21 (dk_at dksJ24_divideMagnitude_13 9 rfl rfl)
theorem dJ24_divideMagnitude_314 : decode cJ24_divideMagnitude 314 = .ok (.putfield 21, 3) := dk_181 0 21 (dk_at dksJ24_divideMagnitude_13 12 rfl rfl)
theorem dJ24_divideMagnitude_317 : decode cJ24_divideMagnitude 317 = .ok (.aload 7, 2) := dk_25 7 (dk_at dksJ24_divideMagnitude_13 15 rfl rfl)
theorem dJ24_divideMagnitude_319 : decode cJ24_divideMagnitude 319 = .ok (.iconst 1, 1) := dk_4 (dk_at dksJ24_divideMagnitude_13 17 rfl rfl)
theorem dJ24_divideMagnitude_320 : decode cJ24_divideMagnitude 320 = .ok (.putfield 11, 3) := dk_181 0 11 (dk_at dksJ24_divideMagnitude_13 18 rfl rfl)
theorem dJ24_divideMagnitude_323 : decode cJ24_divideMagnitude 323 = .ok (.aload 7, 2) := dk_25 7 (dk_at dksJ24_divideMagnitude_13 21 rfl rfl)
theorem dJ24_divideMagnitude_325 : decode cJ24_divideMagnitude 325 = .ok (.getfield 21, 3) := dk_180 0 21 (dk_at dksJ24_divideMagnitude_14 0 rfl rfl)
theorem dJ24_divideMagnitude_328 : decode cJ24_divideMagnitude 328 = .ok (.istore 8, 2) := dk_54 8 (dk_at dksJ24_divideMagnitude_14 3 rfl rfl)
theorem dJ24_divideMagnitude_330 : decode cJ24_divideMagnitude 330 = .ok (.iload 8, 2) := dk_21 8 (dk_at dksJ24_divideMagnitude_14 5 rfl rfl)
theorem dJ24_divideMagnitude_332 : decode cJ24_divideMagnitude 332 = .ok (.iload 5, 2) := dk_21 5 (dk_at dksJ24_divideMagnitude_14 7 rfl rfl)
theorem dJ24_divideMagnitude_334 : decode cJ24_divideMagnitude 334 = .ok (.isub, 1) := dk_100 (dk_at dksJ24_divideMagnitude_14 9 rfl rfl)
theorem dJ24_divideMagnitude_335 : decode cJ24_divideMagnitude 335 = .ok (.iconst 1, 1) := dk_4 (dk_at dksJ24_divideMagnitude_14 10 rfl rfl)
theorem dJ24_divideMagnitude_336 : decode cJ24_divideMagnitude 336 = .ok (.iadd, 1) := dk_96 (dk_at dksJ24_divideMagnitude_14 11 rfl rfl)
theorem dJ24_divideMagnitude_337 : decode cJ24_divideMagnitude 337 = .ok (.istore 9, 2) := dk_54 9 (dk_at dksJ24_divideMagnitude_14 12 rfl rfl)
theorem dJ24_divideMagnitude_339 : decode cJ24_divideMagnitude 339 = .ok (.aload_n 2, 1) := dk_44 (dk_at dksJ24_divideMagnitude_14 14 rfl rfl)
theorem dJ24_divideMagnitude_340 : decode cJ24_divideMagnitude 340 = .ok (.getfield 17, 3) := dk_180 0 17 (dk_at dksJ24_divideMagnitude_14 15 rfl rfl)
theorem dJ24_divideMagnitude_343 : decode cJ24_divideMagnitude 343 = .ok (.arraylength, 1) := dk_190 (dk_at dksJ24_divideMagnitude_14 18 rfl rfl)
theorem dJ24_divideMagnitude_344 : decode cJ24_divideMagnitude 344 = .ok (.iload 9, 2) := dk_21 9 (dk_at dksJ24_divideMagnitude_14 19 rfl rfl)
theorem dJ24_divideMagnitude_346 : decode cJ24_divideMagnitude 346 = .ok (.if_icmp .ge 16, 3) := dk_162 0 16 (dk_at dksJ24_divideMagnitude_14 21 rfl rfl)
theorem dJ24_divideMagnitude_349 : decode cJ24_divideMagnitude 349 = .ok (.aload_n 2, 1) := dk_44 (dk_at dksJ24_divideMagnitude_15 0 rfl rfl)
theorem dJ24_divideMagnitude_350 : decode cJ24_divideMagnitude 350 = .ok (.iload 9, 2) := dk_21 9 (dk_at dksJ24_divideMagnitude_15 1 rfl rfl)
theorem dJ24_divideMagnitude_352 : decode cJ24_divideMagnitude 352 = .ok (.newarray .int, 2) := dk_188_10 (dk_at dksJ24_divideMagnitude_15 3 rfl rfl)
theorem dJ24_divideMagnitude_354 : decode cJ24_divideMagnitude 354 = .ok (.putfield 17, 3) := dk_181 0 17 (dk_at dksJ24_divideMagnitude_15 5 rfl rfl)
theorem dJ24_divideMagnitude_357 : decode cJ24_divideMagnitude 357 = .ok (.aload_n 2, 1) := dk_44 (dk_at dksJ24_divideMagnitude_15 8 rfl rfl)
theorem dJ24_divideMagnitude_358 : decode cJ24_divideMagnitude 358 = .ok (.iconst 0, 1) := dk_3 (dk_at dksJ24_divideMagnitude_15 9 rfl rfl)
theorem dJ24_divideMagnitude_359 : decode cJ24_divideMagnitude 359 = .ok (.putfield 11, 3) := dk_181 0 11 (dk_at dksJ24_divideMagnitude_15 10 rfl rfl)
theorem dJ24_divideMagnitude_362 : decode cJ24_divideMagnitude 362 = .ok (.aload_n 2, 1) := dk_44 (dk_at dksJ24_divideMagnitude_15 13 rfl rfl)
theorem dJ24_divideMagnitude_363 : decode cJ24_divideMagnitude 363 = .ok (.iload 9, 2) := dk_21 9 (dk_at dksJ24_divideMagnitude_15 14 rfl rfl)
theorem dJ24_divideMagnitude_365 : decode cJ24_divideMagnitude 365 = .ok (.putfield 21, 3) := dk_181 0 21 (dk_at dksJ24_divideMagnitude_15 16 rfl rfl)
theorem dJ24_divideMagnitude_368 : decode cJ24_divideMagnitude 368 = .ok (.aload_n 2, 1) := dk_44 (dk_at dksJ24_divideMagnitude_15 19 rfl rfl)
theorem dJ24_divideMagnitude_369 : decode cJ24_divideMagnitude 369 = .ok (.getfield 17, 3) := dk_180 0 17 (dk_at dksJ24_divideMagnitude_15 20 rfl rfl)
theorem dJ24_divideMagnitude_372 : decode cJ24_divideMagnitude 372 = .ok (.astore 10, 2) := dk_58 10 (dk_at dksJ24_divideMagnitude_16 0 rfl rfl)
theorem dJ24_divideMagnitude_374 : decode cJ24_divideMagnitude 374 = .ok (.aload 7, 2) := dk_25 7 (dk_at dksJ24_divideMagnitude_16 2 rfl rfl)
theorem dJ24_divideMagnitude_376 : decode cJ24_divideMagnitude 376 = .ok (.iconst 0, 1) := dk_3 (dk_at dksJ24_divideMagnitude_16 4 rfl rfl)
theorem dJ24_divideMagnitude_377 : decode cJ24_divideMagnitude 377 = .ok (.putfield 11, 3) := dk_181 0 11 (dk_at dksJ24_divideMagnitude_16 5 rfl rfl)
theorem dJ24_divideMagnitude_380 : decode cJ24_divideMagnitude 380 = .ok (.aload 7, 2) := dk_25 7 (dk_at dksJ24_divideMagnitude_16 8 rfl rfl)
theorem dJ24_divideMagnitude_382 : decode cJ24_divideMagnitude 382 = .ok (.getfield 17, 3) := dk_180 0 17 (dk_at dksJ24_divideMagnitude_16 10 rfl rfl)
theorem dJ24_divideMagnitude_385 : decode cJ24_divideMagnitude 385 = .ok (.iconst 0, 1) := dk_3 (dk_at dksJ24_divideMagnitude_16 13 rfl rfl)
theorem dJ24_divideMagnitude_386 : decode cJ24_divideMagnitude 386 = .ok (.iconst 0, 1) := dk_3 (dk_at dksJ24_divideMagnitude_16 14 rfl rfl)
theorem dJ24_divideMagnitude_387 : decode cJ24_divideMagnitude 387 = .ok (.iastore, 1) := dk_79 (dk_at dksJ24_divideMagnitude_16 15 rfl rfl)
theorem dJ24_divideMagnitude_388 : decode cJ24_divideMagnitude 388 = .ok (.aload 7, 2) := dk_25 7 (dk_at dksJ24_divideMagnitude_16 16 rfl rfl)
theorem dJ24_divideMagnitude_390 : decode cJ24_divideMagnitude 390 = .ok (.dup, 1) := dk_89 (dk_at dksJ24_divideMagnitude_16 18 rfl rfl)
theorem dJ24_divideMagnitude_391 : decode cJ24_divideMagnitude 391 = .ok (.getfield 21, 3) := dk_180 0 21 (dk_at dksJ24_divideMagnitude_16 19 rfl rfl)
theorem dJ24_divideMagnitude_394 : decode cJ24_divideMagnitude 394 = .ok (.iconst 1, 1) := dk_4 (dk_at dksJ24_divideMagnitude_16 22 rfl rfl)
theorem dJ24_divideMagnitude_395 : decode cJ24_divideMagnitude 395 = .ok (.iadd, 1) := dk_96 (dk_at dksJ24_divideMagnitude_16 23 rfl rfl)
theorem dJ24_divideMagnitude_396 : decode cJ24_divideMagnitude 396 = .ok (.putfield 21, 3) := dk_181 0 21 (dk_at dksJ24_divideMagnitude_17 0 rfl rfl)
theorem dJ24_divideMagnitude_399 : decode cJ24_divideMagnitude 399 = .ok (.aload 6, 2) := dk_25 6 (dk_at dksJ24_divideMagnitude_17 3 rfl rfl)
theorem dJ24_divideMagnitude_401 : decode cJ24_divideMagnitude 401 = .ok (.iconst 0, 1) := dk_3 (dk_at dksJ24_divideMagnitude_17 5 rfl rfl)
theorem dJ24_divideMagnitude_402 : decode cJ24_divideMagnitude 402 = .ok (.iaload, 1) := dk_46 (dk_at dksJ24_divideMagnitude_17 6 rfl rfl)
theorem dJ24_divideMagnitude_403 : decode cJ24_divideMagnitude 403 = .ok (.istore 11, 2) := dk_54 11 (dk_at dksJ24_divideMagnitude_17 7 rfl rfl)
theorem dJ24_divideMagnitude_405 : decode cJ24_divideMagnitude 405 = .ok (.iload 11, 2) := dk_21 11 (dk_at dksJ24_divideMagnitude_17 9 rfl rfl)
theorem dJ24_divideMagnitude_407 : decode cJ24_divideMagnitude 407 = .ok (.i2l, 1) := dk_133 (dk_at dksJ24_divideMagnitude_17 11 rfl rfl)
theorem dJ24_divideMagnitude_408 : decode cJ24_divideMagnitude 408 = .ok (.ldc2_w 52, 3) := dk_20 0 52 (dk_at dksJ24_divideMagnitude_17 12 rfl rfl)
theorem dJ24_divideMagnitude_411 : decode cJ24_divideMagnitude 411 = .ok (.land, 1) := dk_127 (dk_at dksJ24_divideMagnitude_17 15 rfl rfl)
theorem dJ24_divideMagnitude_412 : decode cJ24_divideMagnitude 412 = .ok (.lstore 12, 2) := dk_55 12 (dk_at dksJ24_divideMagnitude_17 16 rfl rfl)
theorem dJ24_divideMagnitude_414 : decode cJ24_divideMagnitude 414 = .ok (.aload 6, 2) := dk_25 6 (dk_at dksJ24_divideMagnitude_17 18 rfl rfl)
theorem dJ24_divideMagnitude_416 : decode cJ24_divideMagnitude 416 = .ok (.iconst 1, 1) := dk_4 (dk_at dksJ24_divideMagnitude_17 20 rfl rfl)
theorem dJ24_divideMagnitude_417 : decode cJ24_divideMagnitude 417 = .ok (.iaload, 1) := dk_46 (dk_at dksJ24_divideMagnitude_17 21 rfl rfl)
theorem dJ24_divideMagnitude_418 : decode cJ24_divideMagnitude 418 = .ok (.istore 14, 2) := dk_54 14 (dk_at dksJ24_divideMagnitude_17 22 rfl rfl)
theorem dJ24_divideMagnitude_420 : decode cJ24_divideMagnitude 420 = .ok (.iconst 0, 1) := dk_3 (dk_at dksJ24_divideMagnitude_18 0 rfl rfl)
theorem dJ24_divideMagnitude_421 : decode cJ24_divideMagnitude 421 = .ok (.istore 15, 2) := dk_54 15 (dk_at dksJ24_divideMagnitude_18 1 rfl rfl)
theorem dJ24_divideMagnitude_423 : decode cJ24_divideMagnitude 423 = .ok (.iload 15, 2) := dk_21 15 (dk_at dksJ24_divideMagnitude_18 3 rfl rfl)
theorem dJ24_divideMagnitude_425 : decode cJ24_divideMagnitude 425 = .ok (.iload 9, 2) := dk_21 9 (dk_at dksJ24_divideMagnitude_18 5 rfl rfl)
theorem dJ24_divideMagnitude_427 : decode cJ24_divideMagnitude 427 = .ok (.iconst 1, 1) := dk_4 (dk_at dksJ24_divideMagnitude_18 7 rfl rfl)
theorem dJ24_divideMagnitude_428 : decode cJ24_divideMagnitude 428 = .ok (.isub, 1) := dk_100 (dk_at dksJ24_divideMagnitude_18 8 rfl rfl)
theorem dJ24_divideMagnitude_429 : decode cJ24_divideMagnitude 429 = .ok (.if_icmp .ge 399, 3) := dk_162 1 143 (dk_at dksJ24_divideMagnitude_18 9 rfl rfl)
theorem dJ24_divideMagnitude_432 : decode cJ24_divideMagnitude 432 = .ok (.iconst 0, 1) := dk_3 (dk_at dksJ24_divideMagnitude_18 12 rfl rfl)
theorem dJ24_divideMagnitude_433 : decode cJ24_divideMagnitude 433 = .ok (.istore 16, 2) := dk_54 16 (dk_at dksJ24_divideMagnitude_18 13 rfl rfl)
theorem dJ24_divideMagnitude_435 : decode cJ24_divideMagnitude 435 = .ok (.iconst 0, 1) := dk_3 (dk_at dksJ24_divideMagnitude_18 15 rfl rfl)
theorem dJ24_divideMagnitude_436 : decode cJ24_divideMagnitude 436 = .ok (.istore 17, 2) := dk_54 17 (dk_at dksJ24_divideMagnitude_18 16 rfl rfl)
theorem dJ24_divideMagnitude_438 : decode cJ24_divideMagnitude 438 = .ok (.iconst 0, 1) := dk_3 (dk_at dksJ24_divideMagnitude_18 18 rfl rfl)
theorem dJ24_divideMagnitude_439 : decode cJ24_divideMagnitude 439 = .ok (.istore 18, 2) := dk_54 18 (dk_at dksJ24_divideMagnitude_18 19 rfl rfl)
theorem dJ24_divideMagnitude_441 : decode cJ24_divideMagnitude 441 = .ok (.aload 7, 2) := dk_25 7 (dk_at dksJ24_divideMagnitude_18 21 rfl rfl)
theorem dJ24_divideMagnitude_443 : decode cJ24_divideMagnitude 443 = .ok (.getfield 17, 3) := dk_180 0 17 (dk_at dksJ24_divideMagnitude_19 0 rfl rfl)
theorem dJ24_divideMagnitude_446 : decode cJ24_divideMagnitude 446 = .ok (.iload 15, 2) := dk_21 15 (dk_at dksJ24_divideMagnitude_19 3 rfl rfl)
theorem dJ24_divideMagnitude_448 : decode cJ24_divideMagnitude 448 = .ok (.aload 7, 2) := dk_25 7 (dk_at dksJ24_divideMagnitude_19 5 rfl rfl)
theorem dJ24_divideMagnitude_450 : decode cJ24_divideMagnitude 450 = .ok (.getfield 11, 3) := dk_180 0 11 (dk_at dksJ24_divideMagnitude_19 7 rfl rfl)
theorem dJ24_divideMagnitude_453 : decode cJ24_divideMagnitude 453 = .ok (.iadd, 1) := dk_96 (dk_at dksJ24_divideMagnitude_19 10 rfl rfl)
theorem dJ24_divideMagnitude_454 : decode cJ24_divideMagnitude 454 = .ok (.iaload, 1) := dk_46 (dk_at dksJ24_divideMagnitude_19 11 rfl rfl)
theorem dJ24_divideMagnitude_455 : decode cJ24_divideMagnitude 455 = .ok (.istore 19, 2) := dk_54 19 (dk_at dksJ24_divideMagnitude_19 12 rfl rfl)
theorem dJ24_divideMagnitude_457 : decode cJ24_divideMagnitude 457 = .ok (.iload 19, 2) := dk_21 19 (dk_at dksJ24_divideMagnitude_19 14 rfl rfl)
theorem dJ24_divideMagnitude_459 : decode cJ24_divideMagnitude 459 = .ok (.ldc 88, 2) := dk_18 88 (dk_at dksJ24_divideMagnitude_19 16 rfl rfl)
theorem dJ24_divideMagnitude_461 : decode cJ24_divideMagnitude 461 = .ok (.iadd, 1) := dk_96 (dk_at dksJ24_divideMagnitude_19 18 rfl rfl)
theorem dJ24_divideMagnitude_462 : decode cJ24_divideMagnitude 462 = .ok (.istore 20, 2) := dk_54 20 (dk_at dksJ24_divideMagnitude_19 19 rfl rfl)
theorem dJ24_divideMagnitude_464 : decode cJ24_divideMagnitude 464 = .ok (.aload 7, 2) := dk_25 7 (dk_at dksJ24_divideMagnitude_19 21 rfl rfl)
theorem dJ24_divideMagnitude_466 : decode cJ24_divideMagnitude 466 = .ok (.getfield 17, 3) := dk_180 0 17 (dk_at dksJ24_divideMagnitude_20 0 rfl rfl)
theorem dJ24_divideMagnitude_469 : decode cJ24_divideMagnitude 469 = .ok (.iload 15, 2) := dk_21 15 (dk_at dksJ24_divideMagnitude_20 3 rfl rfl)
theorem dJ24_divideMagnitude_471 : decode cJ24_divideMagnitude 471 = .ok (.iconst 1, 1) := dk_4 (dk_at dksJ24_divideMagnitude_20 5 rfl rfl)
theorem dJ24_divideMagnitude_472 : decode cJ24_divideMagnitude 472 = .ok (.iadd, 1) := dk_96 (dk_at dksJ24_divideMagnitude_20 6 rfl rfl)
theorem dJ24_divideMagnitude_473 : decode cJ24_divideMagnitude 473 = .ok (.aload 7, 2) := dk_25 7 (dk_at dksJ24_divideMagnitude_20 7 rfl rfl)
theorem dJ24_divideMagnitude_475 : decode cJ24_divideMagnitude 475 = .ok (.getfield 11, 3) := dk_180 0 11 (dk_at dksJ24_divideMagnitude_20 9 rfl rfl)
theorem dJ24_divideMagnitude_478 : decode cJ24_divideMagnitude 478 = .ok (.iadd, 1) := dk_96 (dk_at dksJ24_divideMagnitude_20 12 rfl rfl)
theorem dJ24_divideMagnitude_479 : decode cJ24_divideMagnitude 479 = .ok (.iaload, 1) := dk_46 (dk_at dksJ24_divideMagnitude_20 13 rfl rfl)
theorem dJ24_divideMagnitude_480 : decode cJ24_divideMagnitude 480 = .ok (.istore 21, 2) := dk_54 21 (dk_at dksJ24_divideMagnitude_20 14 rfl rfl)
theorem dJ24_divideMagnitude_482 : decode cJ24_divideMagnitude 482 = .ok (.iload 19, 2) := dk_21 19 (dk_at dksJ24_divideMagnitude_20 16 rfl rfl)
theorem dJ24_divideMagnitude_484 : decode cJ24_divideMagnitude 484 = .ok (.iload 11, 2) := dk_21 11 (dk_at dksJ24_divideMagnitude_20 18 rfl rfl)
theorem dJ24_divideMagnitude_486 : decode cJ24_divideMagnitude 486 = .ok (.if_icmp .ne 33, 3) := dk_160 0 33 (dk_at dksJ24_divideMagnitude_20 20 rfl rfl)
theorem dJ24_divideMagnitude_489 : decode cJ24_divideMagnitude 489 = .ok (.iconst (-1), 1) := dk_2 (dk_at dksJ24_divideMagnitude_20 23 rfl rfl)
theorem dJ24_divideMagnitude_490 : decode cJ24_divideMagnitude 490 = .ok (.istore 16, 2) := dk_54 16 (dk_at dksJ24_divideMagnitude_21 0 rfl rfl)
theorem dJ24_divideMagnitude_492 : decode cJ24_divideMagnitude 492 = .ok (.iload 19, 2) := dk_21 19 (dk_at dksJ24_divideMagnitude_21 2 rfl rfl)
theorem dJ24_divideMagnitude_494 : decode cJ24_divideMagnitude 494 = .ok (.iload 21, 2) := dk_21 21 (dk_at dksJ24_divideMagnitude_21 4 rfl rfl)
theorem dJ24_divideMagnitude_496 : decode cJ24_divideMagnitude 496 = .ok (.iadd, 1) := dk_96 (dk_at dksJ24_divideMagnitude_21 6 rfl rfl)
theorem dJ24_divideMagnitude_497 : decode cJ24_divideMagnitude 497 = .ok (.istore 17, 2) := dk_54 17 (dk_at dksJ24_divideMagnitude_21 7 rfl rfl)
theorem dJ24_divideMagnitude_499 : decode cJ24_divideMagnitude 499 = .ok (.iload 17, 2) := dk_21 17 (dk_at dksJ24_divideMagnitude_21 9 rfl rfl)
theorem dJ24_divideMagnitude_501 : decode cJ24_divideMagnitude 501 = .ok (.ldc 88, 2) := dk_18 88 (dk_at dksJ24_divideMagnitude_21 11 rfl rfl)
theorem dJ24_divideMagnitude_503 : decode cJ24_divideMagnitude 503 = .ok (.iadd, 1) := dk_96 (dk_at dksJ24_divideMagnitude_21 13 rfl rfl)
theorem dJ24_divideMagnitude_504 : decode cJ24_divideMagnitude 504 = .ok (.iload 20, 2) := dk_21 20 (dk_at dksJ24_divideMagnitude_21 14 rfl rfl)
theorem dJ24_divideMagnitude_506 : decode cJ24_divideMagnitude 506 = .ok (.if_icmp .ge 7, 3) := dk_162 0 7 (dk_at dksJ24_divideMagnitude_21 16 rfl rfl)
theorem dJ24_divideMagnitude_509 : decode cJ24_divideMagnitude 509 = .ok (.iconst 1, 1) := dk_4 (dk_at dksJ24_divideMagnitude_21 19 rfl rfl)
theorem dJ24_divideMagnitude_510 : decode cJ24_divideMagnitude 510 = .ok (.goto 4, 3) := dk_167 0 4 (dk_at dksJ24_divideMagnitude_21 20 rfl rfl)
theorem dJ24_divideMagnitude_513 : decode cJ24_divideMagnitude 513 = .ok (.iconst 0, 1) := dk_3 (dk_at dksJ24_divideMagnitude_21 23 rfl rfl)
theorem dJ24_divideMagnitude_514 : decode cJ24_divideMagnitude 514 = .ok (.istore 18, 2) := dk_54 18 (dk_at dksJ24_divideMagnitude_22 0 rfl rfl)
theorem dJ24_divideMagnitude_516 : decode cJ24_divideMagnitude 516 = .ok (.goto 75, 3) := dk_167 0 75 (dk_at dksJ24_divideMagnitude_22 2 rfl rfl)
theorem dJ24_divideMagnitude_519 : decode cJ24_divideMagnitude 519 = .ok (.iload 19, 2) := dk_21 19 (dk_at dksJ24_divideMagnitude_22 5 rfl rfl)
theorem dJ24_divideMagnitude_521 : decode cJ24_divideMagnitude 521 = .ok (.i2l, 1) := dk_133 (dk_at dksJ24_divideMagnitude_22 7 rfl rfl)
theorem dJ24_divideMagnitude_522 : decode cJ24_divideMagnitude 522 = .ok (.bipush 32, 2) := dk_16 32 (dk_at dksJ24_divideMagnitude_22 8 rfl rfl)
theorem dJ24_divideMagnitude_524 : decode cJ24_divideMagnitude 524 = .ok (.lshl, 1) := dk_121 (dk_at dksJ24_divideMagnitude_22 10 rfl rfl)
theorem dJ24_divideMagnitude_525 : decode cJ24_divideMagnitude 525 = .ok (.iload 21, 2) := dk_21 21 (dk_at dksJ24_divideMagnitude_22 11 rfl rfl)
theorem dJ24_divideMagnitude_527 : decode cJ24_divideMagnitude 527 = .ok (.i2l, 1) := dk_133 (dk_at dksJ24_divideMagnitude_22 13 rfl rfl)
theorem dJ24_divideMagnitude_528 : decode cJ24_divideMagnitude 528 = .ok (.ldc2_w 52, 3) := dk_20 0 52 (dk_at dksJ24_divideMagnitude_22 14 rfl rfl)
theorem dJ24_divideMagnitude_531 : decode cJ24_divideMagnitude 531 = .ok (.land, 1) := dk_127 (dk_at dksJ24_divideMagnitude_22 17 rfl rfl)
theorem dJ24_divideMagnitude_532 : decode cJ24_divideMagnitude 532 = .ok (.lor, 1) := dk_129 (dk_at dksJ24_divideMagnitude_22 18 rfl rfl)
theorem dJ24_divideMagnitude_533 : decode cJ24_divideMagnitude 533 = .ok (.lstore 22, 2) := dk_55 22 (dk_at dksJ24_divideMagnitude_22 19 rfl rfl)
theorem dJ24_divideMagnitude_535 : decode cJ24_divideMagnitude 535 = .ok (.lload 22, 2) := dk_22 22 (dk_at dksJ24_divideMagnitude_22 21 rfl rfl)
theorem dJ24_divideMagnitude_537 : decode cJ24_divideMagnitude 537 = .ok (.lconst 0, 1) := dk_9 (dk_at dksJ24_divideMagnitude_22 23 rfl rfl)
theorem dJ24_divideMagnitude_538 : decode cJ24_divideMagnitude 538 = .ok (.lcmp, 1) := dk_148 (dk_at dksJ24_divideMagnitude_23 0 rfl rfl)
theorem dJ24_divideMagnitude_539 : decode cJ24_divideMagnitude 539 = .ok (.ifCond .lt 26, 3) := dk_155 0 26 (dk_at dksJ24_divideMagnitude_23 1 rfl rfl)
theorem dJ24_divideMagnitude_542 : decode cJ24_divideMagnitude 542 = .ok (.lload 22, 2) := dk_22 22 (dk_at dksJ24_divideMagnitude_23 4 rfl rfl)
theorem dJ24_divideMagnitude_544 : decode cJ24_divideMagnitude 544 = .ok (.lload 12, 2) := dk_22 12 (dk_at dksJ24_divideMagnitude_23 6 rfl rfl)
theorem dJ24_divideMagnitude_546 : decode cJ24_divideMagnitude 546 = .ok (.ldiv, 1) := dk_109 (dk_at dksJ24_divideMagnitude_23 8 rfl rfl)
theorem dJ24_divideMagnitude_547 : decode cJ24_divideMagnitude 547 = .ok (.l2i, 1) := dk_136 (dk_at dksJ24_divideMagnitude_23 9 rfl rfl)
theorem dJ24_divideMagnitude_548 : decode cJ24_divideMagnitude 548 = .ok (.istore 16, 2) := dk_54 16 (dk_at dksJ24_divideMagnitude_23 10 rfl rfl)
theorem dJ24_divideMagnitude_550 : decode cJ24_divideMagnitude 550 = .ok (.lload 22, 2) := dk_22 22 (dk_at dksJ24_divideMagnitude_23 12 rfl rfl)
theorem dJ24_divideMagnitude_552 : decode cJ24_divideMagnitude 552 = .ok (.iload 16, 2) := dk_21 16 (dk_at dksJ24_divideMagnitude_23 14 rfl rfl)
theorem dJ24_divideMagnitude_554 : decode cJ24_divideMagnitude 554 = .ok (.i2l, 1) := dk_133 (dk_at dksJ24_divideMagnitude_23 16 rfl rfl)
theorem dJ24_divideMagnitude_555 : decode cJ24_divideMagnitude 555 = .ok (.lload 12, 2) := dk_22 12 (dk_at dksJ24_divideMagnitude_23 17 rfl rfl)
theorem dJ24_divideMagnitude_557 : decode cJ24_divideMagnitude 557 = .ok (.lmul, 1) := dk_105 (dk_at dksJ24_divideMagnitude_23 19 rfl rfl)
theorem dJ24_divideMagnitude_558 : decode cJ24_divideMagnitude 558 = .ok (.lsub, 1) := dk_101 (dk_at dksJ24_divideMagnitude_23 20 rfl rfl)
theorem dJ24_divideMagnitude_559 : decode cJ24_divideMagnitude 559 = .ok (.l2i, 1) := dk_136 (dk_at dksJ24_divideMagnitude_23 21 rfl rfl)
theorem dJ24_divideMagnitude_560 : decode cJ24_divideMagnitude 560 = .ok (.istore 17, 2) := dk_54 17 (dk_at dksJ24_divideMagnitude_23 22 rfl rfl)
theorem dJ24_divideMagnitude_562 : decode cJ24_divideMagnitude 562 = .ok (.goto 29, 3) := dk_167 0 29 (dk_at dksJ24_divideMagnitude_24 0 rfl rfl)
theorem dJ24_divideMagnitude_565 : decode cJ24_divideMagnitude 565 = .ok (.lload 22, 2) := dk_22 22 (dk_at dksJ24_divideMagnitude_24 3 rfl rfl)
theorem dJ24_divideMagnitude_567 : decode cJ24_divideMagnitude 567 = .ok (.iload 11, 2) := dk_21 11 (dk_at dksJ24_divideMagnitude_24 5 rfl rfl)
theorem dJ24_divideMagnitude_569 : decode cJ24_divideMagnitude 569 = .ok (.invokestatic 155, 3) := dk_184 0 155 (dk_at dksJ24_divideMagnitude_24 7 rfl rfl)
theorem dJ24_divideMagnitude_572 : decode cJ24_divideMagnitude 572 = .ok (.lstore 24, 2) := dk_55 24 (dk_at dksJ24_divideMagnitude_24 10 rfl rfl)
theorem dJ24_divideMagnitude_574 : decode cJ24_divideMagnitude 574 = .ok (.lload 24, 2) := dk_22 24 (dk_at dksJ24_divideMagnitude_24 12 rfl rfl)
theorem dJ24_divideMagnitude_576 : decode cJ24_divideMagnitude 576 = .ok (.ldc2_w 52, 3) := dk_20 0 52 (dk_at dksJ24_divideMagnitude_24 14 rfl rfl)
theorem dJ24_divideMagnitude_579 : decode cJ24_divideMagnitude 579 = .ok (.land, 1) := dk_127 (dk_at dksJ24_divideMagnitude_24 17 rfl rfl)
theorem dJ24_divideMagnitude_580 : decode cJ24_divideMagnitude 580 = .ok (.l2i, 1) := dk_136 (dk_at dksJ24_divideMagnitude_24 18 rfl rfl)
theorem dJ24_divideMagnitude_581 : decode cJ24_divideMagnitude 581 = .ok (.istore 16, 2) := dk_54 16 (dk_at dksJ24_divideMagnitude_24 19 rfl rfl)
theorem dJ24_divideMagnitude_583 : decode cJ24_divideMagnitude 583 = .ok (.lload 24, 2) := dk_22 24 (dk_at dksJ24_divideMagnitude_24 21 rfl rfl)
theorem dJ24_divideMagnitude_585 : decode cJ24_divideMagnitude 585 = .ok (.bipush 32, 2) := dk_16 32 (dk_at dksJ24_divideMagnitude_25 0 rfl rfl)
theorem dJ24_divideMagnitude_587 : decode cJ24_divideMagnitude 587 = .ok (.lushr, 1) := dk_125 (dk_at dksJ24_divideMagnitude_25 2 rfl rfl)
theorem dJ24_divideMagnitude_588 : decode cJ24_divideMagnitude 588 = .ok (.l2i, 1) := dk_136 (dk_at dksJ24_divideMagnitude_25 3 rfl rfl)
theorem dJ24_divideMagnitude_589 : decode cJ24_divideMagnitude 589 = .ok (.istore 17, 2) := dk_54 17 (dk_at dksJ24_divideMagnitude_25 4 rfl rfl)
theorem dJ24_divideMagnitude_591 : decode cJ24_divideMagnitude 591 = .ok (.iload 16, 2) := dk_21 16 (dk_at dksJ24_divideMagnitude_25 6 rfl rfl)
theorem dJ24_divideMagnitude_593 : decode cJ24_divideMagnitude 593 = .ok (.ifCond .ne 6, 3) := dk_154 0 6 (dk_at dksJ24_divideMagnitude_25 8 rfl rfl)
theorem dJ24_divideMagnitude_596 : decode cJ24_divideMagnitude 596 = .ok (.goto 226, 3) := dk_167 0 226 (dk_at dksJ24_divideMagnitude_25 11 rfl rfl)
theorem dJ24_divideMagnitude_599 : decode cJ24_divideMagnitude 599 = .ok (.iload 18, 2) := dk_21 18 (dk_at dksJ24_divideMagnitude_25 14 rfl rfl)
theorem dJ24_divideMagnitude_601 : decode cJ24_divideMagnitude 601 = .ok (.ifCond .ne 139, 3) := dk_154 0 139 (dk_at dksJ24_divideMagnitude_25 16 rfl rfl)
theorem dJ24_divideMagnitude_604 : decode cJ24_divideMagnitude 604 = .ok (.aload 7, 2) := dk_25 7 (dk_at dksJ24_divideMagnitude_25 19 rfl rfl)
theorem dJ24_divideMagnitude_606 : decode cJ24_divideMagnitude 606 = .ok (.getfield 17, 3) := dk_180 0 17 (dk_at dksJ24_divideMagnitude_25 21 rfl rfl)
theorem dJ24_divideMagnitude_609 : decode cJ24_divideMagnitude 609 = .ok (.iload 15, 2) := dk_21 15 (dk_at dksJ24_divideMagnitude_26 0 rfl rfl)
theorem dJ24_divideMagnitude_611 : decode cJ24_divideMagnitude 611 = .ok (.iconst 2, 1) := dk_5 (dk_at dksJ24_divideMagnitude_26 2 rfl rfl)
theorem dJ24_divideMagnitude_612 : decode cJ24_divideMagnitude 612 = .ok (.iadd, 1) := dk_96 (dk_at dksJ24_divideMagnitude_26 3 rfl rfl)
theorem dJ24_divideMagnitude_613 : decode cJ24_divideMagnitude 613 = .ok (.aload 7, 2) := dk_25 7 (dk_at dksJ24_divideMagnitude_26 4 rfl rfl)
theorem dJ24_divideMagnitude_615 : decode cJ24_divideMagnitude 615 = .ok (.getfield 11, 3) := dk_180 0 11 (dk_at dksJ24_divideMagnitude_26 6 rfl rfl)
theorem dJ24_divideMagnitude_618 : decode cJ24_divideMagnitude 618 = .ok (.iadd, 1) := dk_96 (dk_at dksJ24_divideMagnitude_26 9 rfl rfl)
theorem dJ24_divideMagnitude_619 : decode cJ24_divideMagnitude 619 = .ok (.iaload, 1) := dk_46 (dk_at dksJ24_divideMagnitude_26 10 rfl rfl)
theorem dJ24_divideMagnitude_620 : decode cJ24_divideMagnitude 620 = .ok (.i2l, 1) := dk_133 (dk_at dksJ24_divideMagnitude_26 11 rfl rfl)
theorem dJ24_divideMagnitude_621 : decode cJ24_divideMagnitude 621 = .ok (.ldc2_w 52, 3) := dk_20 0 52 (dk_at dksJ24_divideMagnitude_26 12 rfl rfl)
theorem dJ24_divideMagnitude_624 : decode cJ24_divideMagnitude 624 = .ok (.land, 1) := dk_127 (dk_at dksJ24_divideMagnitude_26 15 rfl rfl)
theorem dJ24_divideMagnitude_625 : decode cJ24_divideMagnitude 625 = .ok (.lstore 22, 2) := dk_55 22 (dk_at dksJ24_divideMagnitude_26 16 rfl rfl)
theorem dJ24_divideMagnitude_627 : decode cJ24_divideMagnitude 627 = .ok (.iload 17, 2) := dk_21 17 (dk_at dksJ24_divideMagnitude_26 18 rfl rfl)
theorem dJ24_divideMagnitude_629 : decode cJ24_divideMagnitude 629 = .ok (.i2l, 1) := dk_133 (dk_at dksJ24_divideMagnitude_26 20 rfl rfl)
theorem dJ24_divideMagnitude_630 : decode cJ24_divideMagnitude 630 = .ok (.ldc2_w 52, 3) := dk_20 0 52 (dk_at dksJ24_divideMagnitude_26 21 rfl rfl)
theorem dJ24_divideMagnitude_633 : decode cJ24_divideMagnitude 633 = .ok (.land, 1) := dk_127 (dk_at dksJ24_divideMagnitude_27 0 rfl rfl)
theorem dJ24_divideMagnitude_634 : decode cJ24_divideMagnitude 634 = .ok (.bipush 32, 2) := dk_16 32 (dk_at dksJ24_divideMagnitude_27 1 rfl rfl)
theorem dJ24_divideMagnitude_636 : decode cJ24_divideMagnitude 636 = .ok (.lshl, 1) := dk_121 (dk_at dksJ24_divideMagnitude_27 3 rfl rfl)
theorem dJ24_divideMagnitude_637 : decode cJ24_divideMagnitude 637 = .ok (.lload 22, 2) := dk_22 22 (dk_at dksJ24_divideMagnitude_27 4 rfl rfl)
theorem dJ24_divideMagnitude_639 : decode cJ24_divideMagnitude 639 = .ok (.lor, 1) := dk_129 (dk_at dksJ24_divideMagnitude_27 6 rfl rfl)
theorem dJ24_divideMagnitude_640 : decode cJ24_divideMagnitude 640 = .ok (.lstore 24, 2) := dk_55 24 (dk_at dksJ24_divideMagnitude_27 7 rfl rfl)
theorem dJ24_divideMagnitude_642 : decode cJ24_divideMagnitude 642 = .ok (.iload 14, 2) := dk_21 14 (dk_at dksJ24_divideMagnitude_27 9 rfl rfl)
theorem dJ24_divideMagnitude_644 : decode cJ24_divideMagnitude 644 = .ok (.i2l, 1) := dk_133 (dk_at dksJ24_divideMagnitude_27 11 rfl rfl)
theorem dJ24_divideMagnitude_645 : decode cJ24_divideMagnitude 645 = .ok (.ldc2_w 52, 3) := dk_20 0 52 (dk_at dksJ24_divideMagnitude_27 12 rfl rfl)
theorem dJ24_divideMagnitude_648 : decode cJ24_divideMagnitude 648 = .ok (.land, 1) := dk_127 (dk_at dksJ24_divideMagnitude_27 15 rfl rfl)
theorem dJ24_divideMagnitude_649 : decode cJ24_divideMagnitude 649 = .ok (.iload 16, 2) := dk_21 16 (dk_at dksJ24_divideMagnitude_27 16 rfl rfl)
theorem dJ24_divideMagnitude_651 : decode cJ24_divideMagnitude 651 = .ok (.i2l, 1) := dk_133 (dk_at dksJ24_divideMagnitude_27 18 rfl rfl)
theorem dJ24_divideMagnitude_652 : decode cJ24_divideMagnitude 652 = .ok (.ldc2_w 52, 3) := dk_20 0 52 (dk_at dksJ24_divideMagnitude_27 19 rfl rfl)
theorem dJ24_divideMagnitude_655 : decode cJ24_divideMagnitude 655 = .ok (.land, 1) := dk_127 (dk_at dksJ24_divideMagnitude_27 22 rfl rfl)
theorem dJ24_divideMagnitude_656 : decode cJ24_divideMagnitude 656 = .ok (.lmul, 1) := dk_105 (dk_at dksJ24_divideMagnitude_27 23 rfl rfl)
theorem dJ24_divideMagnitude_657 : decode cJ24_divideMagnitude 657 = .ok (.lstore 26, 2) := dk_55 26 (dk_at dksJ24_divideMagnitude_28 0 rfl rfl)
theorem dJ24_divideMagnitude_659 : decode cJ24_divideMagnitude 659 = .ok (.aload_n 0, 1) := dk_42 (dk_at dksJ24_divideMagnitude_28 2 rfl rfl)
theorem dJ24_divideMagnitude_660 : decode cJ24_divideMagnitude 660 = .ok (.lload 26, 2) := dk_22 26 (dk_at dksJ24_divideMagnitude_28 3 rfl rfl)
theorem dJ24_divideMagnitude_662 : decode cJ24_divideMagnitude 662 = .ok (.lload 24, 2) := dk_22 24 (dk_at dksJ24_divideMagnitude_28 5 rfl rfl)
theorem dJ24_divideMagnitude_664 : decode cJ24_divideMagnitude 664 = .ok (.invokevirtual 273, 3) := dk_182 1 17 (dk_at dksJ24_divideMagnitude_28 7 rfl rfl)
theorem dJ24_divideMagnitude_667 : decode cJ24_divideMagnitude 667 = .ok (.ifCond .eq 73, 3) := dk_153 0 73 (dk_at dksJ24_divideMagnitude_28 10 rfl rfl)
theorem dJ24_divideMagnitude_670 : decode cJ24_divideMagnitude 670 = .ok (.iinc 16 (-1), 3) := dk_132 16 255 (dk_at dksJ24_divideMagnitude_28 13 rfl rfl)
theorem dJ24_divideMagnitude_673 : decode cJ24_divideMagnitude 673 = .ok (.iload 17, 2) := dk_21 17 (dk_at dksJ24_divideMagnitude_28 16 rfl rfl)
theorem dJ24_divideMagnitude_675 : decode cJ24_divideMagnitude 675 = .ok (.i2l, 1) := dk_133 (dk_at dksJ24_divideMagnitude_28 18 rfl rfl)
theorem dJ24_divideMagnitude_676 : decode cJ24_divideMagnitude 676 = .ok (.ldc2_w 52, 3) := dk_20 0 52 (dk_at dksJ24_divideMagnitude_28 19 rfl rfl)
theorem dJ24_divideMagnitude_679 : decode cJ24_divideMagnitude 679 = .ok (.land, 1) := dk_127 (dk_at dksJ24_divideMagnitude_28 22 rfl rfl)
theorem dJ24_divideMagnitude_680 : decode cJ24_divideMagnitude 680 = .ok (.lload 12, 2) := dk_22 12 (dk_at dksJ24_divideMagnitude_29 0 rfl rfl)
theorem dJ24_divideMagnitude_682 : decode cJ24_divideMagnitude 682 = .ok (.ladd, 1) := dk_97 (dk_at dksJ24_divideMagnitude_29 2 rfl rfl)
theorem dJ24_divideMagnitude_683 : decode cJ24_divideMagnitude 683 = .ok (.l2i, 1) := dk_136 (dk_at dksJ24_divideMagnitude_29 3 rfl rfl)
theorem dJ24_divideMagnitude_684 : decode cJ24_divideMagnitude 684 = .ok (.istore 17, 2) := dk_54 17 (dk_at dksJ24_divideMagnitude_29 4 rfl rfl)
theorem dJ24_divideMagnitude_686 : decode cJ24_divideMagnitude 686 = .ok (.iload 17, 2) := dk_21 17 (dk_at dksJ24_divideMagnitude_29 6 rfl rfl)
theorem dJ24_divideMagnitude_688 : decode cJ24_divideMagnitude 688 = .ok (.i2l, 1) := dk_133 (dk_at dksJ24_divideMagnitude_29 8 rfl rfl)
theorem dJ24_divideMagnitude_689 : decode cJ24_divideMagnitude 689 = .ok (.ldc2_w 52, 3) := dk_20 0 52 (dk_at dksJ24_divideMagnitude_29 9 rfl rfl)
theorem dJ24_divideMagnitude_692 : decode cJ24_divideMagnitude 692 = .ok (.land, 1) := dk_127 (dk_at dksJ24_divideMagnitude_29 12 rfl rfl)
theorem dJ24_divideMagnitude_693 : decode cJ24_divideMagnitude 693 = .ok (.lload 12, 2) := dk_22 12 (dk_at dksJ24_divideMagnitude_29 13 rfl rfl)
theorem dJ24_divideMagnitude_695 : decode cJ24_divideMagnitude 695 = .ok (.lcmp, 1) := dk_148 (dk_at dksJ24_divideMagnitude_29 15 rfl rfl)
theorem dJ24_divideMagnitude_696 : decode cJ24_divideMagnitude 696 = .ok (.ifCond .lt 44, 3) := dk_155 0 44 (dk_at dksJ24_divideMagnitude_29 16 rfl rfl)
theorem dJ24_divideMagnitude_699 : decode cJ24_divideMagnitude 699 = .ok (.lload 26, 2) := dk_22 26 (dk_at dksJ24_divideMagnitude_29 19 rfl rfl)
theorem dJ24_divideMagnitude_701 : decode cJ24_divideMagnitude 701 = .ok (.iload 14, 2) := dk_21 14 (dk_at dksJ24_divideMagnitude_29 21 rfl rfl)
theorem dJ24_divideMagnitude_703 : decode cJ24_divideMagnitude 703 = .ok (.i2l, 1) := dk_133 (dk_at dksJ24_divideMagnitude_29 23 rfl rfl)
theorem dJ24_divideMagnitude_704 : decode cJ24_divideMagnitude 704 = .ok (.ldc2_w 52, 3) := dk_20 0 52 (dk_at dksJ24_divideMagnitude_30 0 rfl rfl)
theorem dJ24_divideMagnitude_707 : decode cJ24_divideMagnitude 707 = .ok (.land, 1) := dk_127 (dk_at dksJ24_divideMagnitude_30 3 rfl rfl)
theorem dJ24_divideMagnitude_708 : decode cJ24_divideMagnitude 708 = .ok (.lsub, 1) := dk_101 (dk_at dksJ24_divideMagnitude_30 4 rfl rfl)
theorem dJ24_divideMagnitude_709 : decode cJ24_divideMagnitude 709 = .ok (.lstore 26, 2) := dk_55 26 (dk_at dksJ24_divideMagnitude_30 5 rfl rfl)
theorem dJ24_divideMagnitude_711 : decode cJ24_divideMagnitude 711 = .ok (.iload 17, 2) := dk_21 17 (dk_at dksJ24_divideMagnitude_30 7 rfl rfl)
theorem dJ24_divideMagnitude_713 : decode cJ24_divideMagnitude 713 = .ok (.i2l, 1) := dk_133 (dk_at dksJ24_divideMagnitude_30 9 rfl rfl)
theorem dJ24_divideMagnitude_714 : decode cJ24_divideMagnitude 714 = .ok (.ldc2_w 52, 3) := dk_20 0 52 (dk_at dksJ24_divideMagnitude_30 10 rfl rfl)
theorem dJ24_divideMagnitude_717 : decode cJ24_divideMagnitude 717 = .ok (.land, 1) := dk_127 (dk_at dksJ24_divideMagnitude_30 13 rfl rfl)
theorem dJ24_divideMagnitude_718 : decode cJ24_divideMagnitude 718 = .ok (.bipush 32, 2) := dk_16 32 (dk_at dksJ24_divideMagnitude_30 14 rfl rfl)
theorem dJ24_divideMagnitude_720 : decode cJ24_divideMagnitude 720 = .ok (.lshl, 1) := dk_121 (dk_at dksJ24_divideMagnitude_30 16 rfl rfl)
theorem dJ24_divideMagnitude_721 : decode cJ24_divideMagnitude 721 = .ok (.lload 22, 2) := dk_22 22 (dk_at dksJ24_divideMagnitude_30 17 rfl rfl)
theorem dJ24_divideMagnitude_723 : decode cJ24_divideMagnitude 723 = .ok (.lor, 1) := dk_129 (dk_at dksJ24_divideMagnitude_30 19 rfl rfl)
theorem dJ24_divideMagnitude_724 : decode cJ24_divideMagnitude 724 = .ok (.lstore 24, 2) := dk_55 24 (dk_at dksJ24_divideMagnitude_30 20 rfl rfl)
theorem dJ24_divideMagnitude_726 : decode cJ24_divideMagnitude 726 = .ok (.aload_n 0, 1) := dk_42 (dk_at dksJ24_divideMagnitude_30 22 rfl rfl)
theorem dJ24_divideMagnitude_727 : decode cJ24_divideMagnitude 727 = .ok (.lload 26, 2) := dk_22 26 (dk_at dksJ24_divideMagnitude_31 0 rfl rfl)
theorem dJ24_divideMagnitude_729 : decode cJ24_divideMagnitude 729 = .ok (.lload 24, 2) := dk_22 24 (dk_at dksJ24_divideMagnitude_31 2 rfl rfl)
theorem dJ24_divideMagnitude_731 : decode cJ24_divideMagnitude 731 = .ok (.invokevirtual 273, 3) := dk_182 1 17 (dk_at dksJ24_divideMagnitude_31 4 rfl rfl)
theorem dJ24_divideMagnitude_734 : decode cJ24_divideMagnitude 734 = .ok (.ifCond .eq 6, 3) := dk_153 0 6 (dk_at dksJ24_divideMagnitude_31 7 rfl rfl)
theorem dJ24_divideMagnitude_737 : decode cJ24_divideMagnitude 737 = .ok (.iinc 16 (-1), 3) := dk_132 16 255 (dk_at dksJ24_divideMagnitude_31 10 rfl rfl)
theorem dJ24_divideMagnitude_740 : decode cJ24_divideMagnitude 740 = .ok (.aload 7, 2) := dk_25 7 (dk_at dksJ24_divideMagnitude_31 13 rfl rfl)
theorem dJ24_divideMagnitude_742 : decode cJ24_divideMagnitude 742 = .ok (.getfield 17, 3) := dk_180 0 17 (dk_at dksJ24_divideMagnitude_31 15 rfl rfl)
theorem dJ24_divideMagnitude_745 : decode cJ24_divideMagnitude 745 = .ok (.iload 15, 2) := dk_21 15 (dk_at dksJ24_divideMagnitude_31 18 rfl rfl)
theorem dJ24_divideMagnitude_747 : decode cJ24_divideMagnitude 747 = .ok (.aload 7, 2) := dk_25 7 (dk_at dksJ24_divideMagnitude_31 20 rfl rfl)
theorem dJ24_divideMagnitude_749 : decode cJ24_divideMagnitude 749 = .ok (.getfield 11, 3) := dk_180 0 11 (dk_at dksJ24_divideMagnitude_32 0 rfl rfl)
theorem dJ24_divideMagnitude_752 : decode cJ24_divideMagnitude 752 = .ok (.iadd, 1) := dk_96 (dk_at dksJ24_divideMagnitude_32 3 rfl rfl)
theorem dJ24_divideMagnitude_753 : decode cJ24_divideMagnitude 753 = .ok (.iconst 0, 1) := dk_3 (dk_at dksJ24_divideMagnitude_32 4 rfl rfl)
theorem dJ24_divideMagnitude_754 : decode cJ24_divideMagnitude 754 = .ok (.iastore, 1) := dk_79 (dk_at dksJ24_divideMagnitude_32 5 rfl rfl)
theorem dJ24_divideMagnitude_755 : decode cJ24_divideMagnitude 755 = .ok (.aload_n 0, 1) := dk_42 (dk_at dksJ24_divideMagnitude_32 6 rfl rfl)
theorem dJ24_divideMagnitude_756 : decode cJ24_divideMagnitude 756 = .ok (.aload 7, 2) := dk_25 7 (dk_at dksJ24_divideMagnitude_32 7 rfl rfl)
theorem dJ24_divideMagnitude_758 : decode cJ24_divideMagnitude 758 = .ok (.getfield 17, 3) := dk_180 0 17 (dk_at dksJ24_divideMagnitude_32 9 rfl rfl)
theorem dJ24_divideMagnitude_761 : decode cJ24_divideMagnitude 761 = .ok (.aload 6, 2) := dk_25 6 (dk_at dksJ24_divideMagnitude_32 12 rfl rfl)
theorem dJ24_divideMagnitude_763 : decode cJ24_divideMagnitude 763 = .ok (.iload 16, 2) := dk_21 16 (dk_at dksJ24_divideMagnitude_32 14 rfl rfl)
theorem dJ24_divideMagnitude_765 : decode cJ24_divideMagnitude 765 = .ok (.iload 5, 2) := dk_21 5 (dk_at dksJ24_divideMagnitude_32 16 rfl rfl)
theorem dJ24_divideMagnitude_767 : decode cJ24_divideMagnitude 767 = .ok (.iload 15, 2) := dk_21 15 (dk_at dksJ24_divideMagnitude_32 18 rfl rfl)
theorem dJ24_divideMagnitude_769 : decode cJ24_divideMagnitude 769 = .ok (.aload 7, 2) := dk_25 7 (dk_at dksJ24_divideMagnitude_32 20 rfl rfl)
theorem dJ24_divideMagnitude_771 : decode cJ24_divideMagnitude 771 = .ok (.getfield 11, 3) := dk_180 0 11 (dk_at dksJ24_divideMagnitude_33 0 rfl rfl)
theorem dJ24_divideMagnitude_774 : decode cJ24_divideMagnitude 774 = .ok (.iadd, 1) := dk_96 (dk_at dksJ24_divideMagnitude_33 3 rfl rfl)
theorem dJ24_divideMagnitude_775 : decode cJ24_divideMagnitude 775 = .ok (.invokevirtual 277, 3) := dk_182 1 21 (dk_at dksJ24_divideMagnitude_33 4 rfl rfl)
theorem dJ24_divideMagnitude_778 : decode cJ24_divideMagnitude 778 = .ok (.istore 22, 2) := dk_54 22 (dk_at dksJ24_divideMagnitude_33 7 rfl rfl)
theorem dJ24_divideMagnitude_780 : decode cJ24_divideMagnitude 780 = .ok (.iload 22, 2) := dk_21 22 (dk_at dksJ24_divideMagnitude_33 9 rfl rfl)
theorem dJ24_divideMagnitude_782 : decode cJ24_divideMagnitude 782 = .ok (.ldc 88, 2) := dk_18 88 (dk_at dksJ24_divideMagnitude_33 11 rfl rfl)
theorem dJ24_divideMagnitude_784 : decode cJ24_divideMagnitude 784 = .ok (.iadd, 1) := dk_96 (dk_at dksJ24_divideMagnitude_33 13 rfl rfl)
theorem dJ24_divideMagnitude_785 : decode cJ24_divideMagnitude 785 = .ok (.iload 20, 2) := dk_21 20 (dk_at dksJ24_divideMagnitude_33 14 rfl rfl)
theorem dJ24_divideMagnitude_787 : decode cJ24_divideMagnitude 787 = .ok (.if_icmp .le 28, 3) := dk_164 0 28 (dk_at dksJ24_divideMagnitude_33 16 rfl rfl)
theorem dJ24_divideMagnitude_790 : decode cJ24_divideMagnitude 790 = .ok (.aload_n 0, 1) := dk_42 (dk_at dksJ24_divideMagnitude_33 19 rfl rfl)
theorem dJ24_divideMagnitude_791 : decode cJ24_divideMagnitude 791 = .ok (.aload 6, 2) := dk_25 6 (dk_at dksJ24_divideMagnitude_33 20 rfl rfl)
theorem dJ24_divideMagnitude_793 : decode cJ24_divideMagnitude 793 = .ok (.aload 7, 2) := dk_25 7 (dk_at dksJ24_divideMagnitude_33 22 rfl rfl)
theorem dJ24_divideMagnitude_795 : decode cJ24_divideMagnitude 795 = .ok (.getfield 17, 3) := dk_180 0 17 (dk_at dksJ24_divideMagnitude_34 0 rfl rfl)
theorem dJ24_divideMagnitude_798 : decode cJ24_divideMagnitude 798 = .ok (.iload 15, 2) := dk_21 15 (dk_at dksJ24_divideMagnitude_34 3 rfl rfl)
theorem dJ24_divideMagnitude_800 : decode cJ24_divideMagnitude 800 = .ok (.iconst 1, 1) := dk_4 (dk_at dksJ24_divideMagnitude_34 5 rfl rfl)
theorem dJ24_divideMagnitude_801 : decode cJ24_divideMagnitude 801 = .ok (.iadd, 1) := dk_96 (dk_at dksJ24_divideMagnitude_34 6 rfl rfl)
theorem dJ24_divideMagnitude_802 : decode cJ24_divideMagnitude 802 = .ok (.aload 7, 2) := dk_25 7 (dk_at dksJ24_divideMagnitude_34 7 rfl rfl)
theorem dJ24_divideMagnitude_804 : decode cJ24_divideMagnitude 804 = .ok (.getfield 11, 3) := dk_180 0 11 (dk_at dksJ24_divideMagnitude_34 9 rfl rfl)
theorem dJ24_divideMagnitude_807 : decode cJ24_divideMagnitude 807 = .ok (.iadd, 1) := dk_96 (dk_at dksJ24_divideMagnitude_34 12 rfl rfl)
theorem dJ24_divideMagnitude_808 : decode cJ24_divideMagnitude 808 = .ok (.invokevirtual 281, 3) := dk_182 1 25 (dk_at dksJ24_divideMagnitude_34 13 rfl rfl)
theorem dJ24_divideMagnitude_811 : decode cJ24_divideMagnitude 811 = .ok (.pop, 1) := dk_87 (dk_at dksJ24_divideMagnitude_34 16 rfl rfl)
theorem dJ24_divideMagnitude_812 : decode cJ24_divideMagnitude 812 = .ok (.iinc 16 (-1), 3) := dk_132 16 255 (dk_at dksJ24_divideMagnitude_34 17 rfl rfl)
theorem dJ24_divideMagnitude_815 : decode cJ24_divideMagnitude 815 = .ok (.aload 10, 2) := dk_25 10 (dk_at dksJ24_divideMagnitude_34 20 rfl rfl)
theorem dJ24_divideMagnitude_817 : decode cJ24_divideMagnitude 817 = .ok (.iload 15, 2) := dk_21 15 (dk_at dksJ24_divideMagnitude_34 22 rfl rfl)
theorem dJ24_divideMagnitude_819 : decode cJ24_divideMagnitude 819 = .ok (.iload 16, 2) := dk_21 16 (dk_at dksJ24_divideMagnitude_35 0 rfl rfl)
theorem dJ24_divideMagnitude_821 : decode cJ24_divideMagnitude 821 = .ok (.iastore, 1) := dk_79 (dk_at dksJ24_divideMagnitude_35 2 rfl rfl)
theorem dJ24_divideMagnitude_822 : decode cJ24_divideMagnitude 822 = .ok (.iinc 15 1, 3) := dk_132 15 1 (dk_at dksJ24_divideMagnitude_35 3 rfl rfl)
theorem dJ24_divideMagnitude_825 : decode cJ24_divideMagnitude 825 = .ok (.goto (-402), 3) := dk_167 254 110 (dk_at dksJ24_divideMagnitude_35 6 rfl rfl)
theorem dJ24_divideMagnitude_828 : decode cJ24_divideMagnitude 828 = .ok (.iconst 0, 1) := dk_3 (dk_at dksJ24_divideMagnitude_35 9 rfl rfl)
theorem dJ24_divideMagnitude_829 : decode cJ24_divideMagnitude 829 = .ok (.istore 15, 2) := dk_54 15 (dk_at dksJ24_divideMagnitude_35 10 rfl rfl)
theorem dJ24_divideMagnitude_831 : decode cJ24_divideMagnitude 831 = .ok (.iconst 0, 1) := dk_3 (dk_at dksJ24_divideMagnitude_35 12 rfl rfl)
theorem dJ24_divideMagnitude_832 : decode cJ24_divideMagnitude 832 = .ok (.istore 16, 2) := dk_54 16 (dk_at dksJ24_divideMagnitude_35 13 rfl rfl)
theorem dJ24_divideMagnitude_834 : decode cJ24_divideMagnitude 834 = .ok (.iconst 0, 1) := dk_3 (dk_at dksJ24_divideMagnitude_35 15 rfl rfl)
theorem dJ24_divideMagnitude_835 : decode cJ24_divideMagnitude 835 = .ok (.istore 17, 2) := dk_54 17 (dk_at dksJ24_divideMagnitude_35 16 rfl rfl)
theorem dJ24_divideMagnitude_837 : decode cJ24_divideMagnitude 837 = .ok (.aload 7, 2) := dk_25 7 (dk_at dksJ24_divideMagnitude_35 18 rfl rfl)
theorem dJ24_divideMagnitude_839 : decode cJ24_divideMagnitude 839 = .ok (.getfield 17, 3) := dk_180 0 17 (dk_at dksJ24_divideMagnitude_35 20 rfl rfl)
theorem dJ24_divideMagnitude_842 : decode cJ24_divideMagnitude 842 = .ok (.iload 9, 2) := dk_21 9 (dk_at dksJ24_divideMagnitude_36 0 rfl rfl)
theorem dJ24_divideMagnitude_844 : decode cJ24_divideMagnitude 844 = .ok (.iconst 1, 1) := dk_4 (dk_at dksJ24_divideMagnitude_36 2 rfl rfl)
theorem dJ24_divideMagnitude_845 : decode cJ24_divideMagnitude 845 = .ok (.isub, 1) := dk_100 (dk_at dksJ24_divideMagnitude_36 3 rfl rfl)
theorem dJ24_divideMagnitude_846 : decode cJ24_divideMagnitude 846 = .ok (.aload 7, 2) := dk_25 7 (dk_at dksJ24_divideMagnitude_36 4 rfl rfl)
theorem dJ24_divideMagnitude_848 : decode cJ24_divideMagnitude 848 = .ok (.getfield 11, 3) := dk_180 0 11 (dk_at dksJ24_divideMagnitude_36 6 rfl rfl)
theorem dJ24_divideMagnitude_851 : decode cJ24_divideMagnitude 851 = .ok (.iadd, 1) := dk_96 (dk_at dksJ24_divideMagnitude_36 9 rfl rfl)
theorem dJ24_divideMagnitude_852 : decode cJ24_divideMagnitude 852 = .ok (.iaload, 1) := dk_46 (dk_at dksJ24_divideMagnitude_36 10 rfl rfl)
theorem dJ24_divideMagnitude_853 : decode cJ24_divideMagnitude 853 = .ok (.istore 18, 2) := dk_54 18 (dk_at dksJ24_divideMagnitude_36 11 rfl rfl)
theorem dJ24_divideMagnitude_855 : decode cJ24_divideMagnitude 855 = .ok (.iload 18, 2) := dk_21 18 (dk_at dksJ24_divideMagnitude_36 13 rfl rfl)
theorem dJ24_divideMagnitude_857 : decode cJ24_divideMagnitude 857 = .ok (.ldc 88, 2) := dk_18 88 (dk_at dksJ24_divideMagnitude_36 15 rfl rfl)
theorem dJ24_divideMagnitude_859 : decode cJ24_divideMagnitude 859 = .ok (.iadd, 1) := dk_96 (dk_at dksJ24_divideMagnitude_36 17 rfl rfl)
theorem dJ24_divideMagnitude_860 : decode cJ24_divideMagnitude 860 = .ok (.istore 19, 2) := dk_54 19 (dk_at dksJ24_divideMagnitude_36 18 rfl rfl)
theorem dJ24_divideMagnitude_862 : decode cJ24_divideMagnitude 862 = .ok (.aload 7, 2) := dk_25 7 (dk_at dksJ24_divideMagnitude_36 20 rfl rfl)
theorem dJ24_divideMagnitude_864 : decode cJ24_divideMagnitude 864 = .ok (.getfield 17, 3) := dk_180 0 17 (dk_at dksJ24_divideMagnitude_37 0 rfl rfl)
theorem dJ24_divideMagnitude_867 : decode cJ24_divideMagnitude 867 = .ok (.iload 9, 2) := dk_21 9 (dk_at dksJ24_divideMagnitude_37 3 rfl rfl)
theorem dJ24_divideMagnitude_869 : decode cJ24_divideMagnitude 869 = .ok (.aload 7, 2) := dk_25 7 (dk_at dksJ24_divideMagnitude_37 5 rfl rfl)
theorem dJ24_divideMagnitude_871 : decode cJ24_divideMagnitude 871 = .ok (.getfield 11, 3) := dk_180 0 11 (dk_at dksJ24_divideMagnitude_37 7 rfl rfl)
theorem dJ24_divideMagnitude_874 : decode cJ24_divideMagnitude 874 = .ok (.iadd, 1) := dk_96 (dk_at dksJ24_divideMagnitude_37 10 rfl rfl)
theorem dJ24_divideMagnitude_875 : decode cJ24_divideMagnitude 875 = .ok (.iaload, 1) := dk_46 (dk_at dksJ24_divideMagnitude_37 11 rfl rfl)
theorem dJ24_divideMagnitude_876 : decode cJ24_divideMagnitude 876 = .ok (.istore 20, 2) := dk_54 20 (dk_at dksJ24_divideMagnitude_37 12 rfl rfl)
theorem dJ24_divideMagnitude_878 : decode cJ24_divideMagnitude 878 = .ok (.iload 18, 2) := dk_21 18 (dk_at dksJ24_divideMagnitude_37 14 rfl rfl)
theorem dJ24_divideMagnitude_880 : decode cJ24_divideMagnitude 880 = .ok (.iload 11, 2) := dk_21 11 (dk_at dksJ24_divideMagnitude_37 16 rfl rfl)
theorem dJ24_divideMagnitude_882 : decode cJ24_divideMagnitude 882 = .ok (.if_icmp .ne 33, 3) := dk_160 0 33 (dk_at dksJ24_divideMagnitude_37 18 rfl rfl)
theorem dJ24_divideMagnitude_885 : decode cJ24_divideMagnitude 885 = .ok (.iconst (-1), 1) := dk_2 (dk_at dksJ24_divideMagnitude_37 21 rfl rfl)
theorem dJ24_divideMagnitude_886 : decode cJ24_divideMagnitude 886 = .ok (.istore 15, 2) := dk_54 15 (dk_at dksJ24_divideMagnitude_37 22 rfl rfl)
theorem dJ24_divideMagnitude_888 : decode cJ24_divideMagnitude 888 = .ok (.iload 18, 2) := dk_21 18 (dk_at dksJ24_divideMagnitude_38 0 rfl rfl)
theorem dJ24_divideMagnitude_890 : decode cJ24_divideMagnitude 890 = .ok (.iload 20, 2) := dk_21 20 (dk_at dksJ24_divideMagnitude_38 2 rfl rfl)
theorem dJ24_divideMagnitude_892 : decode cJ24_divideMagnitude 892 = .ok (.iadd, 1) := dk_96 (dk_at dksJ24_divideMagnitude_38 4 rfl rfl)
theorem dJ24_divideMagnitude_893 : decode cJ24_divideMagnitude 893 = .ok (.istore 16, 2) := dk_54 16 (dk_at dksJ24_divideMagnitude_38 5 rfl rfl)
theorem dJ24_divideMagnitude_895 : decode cJ24_divideMagnitude 895 = .ok (.iload 16, 2) := dk_21 16 (dk_at dksJ24_divideMagnitude_38 7 rfl rfl)
theorem dJ24_divideMagnitude_897 : decode cJ24_divideMagnitude 897 = .ok (.ldc 88, 2) := dk_18 88 (dk_at dksJ24_divideMagnitude_38 9 rfl rfl)
theorem dJ24_divideMagnitude_899 : decode cJ24_divideMagnitude 899 = .ok (.iadd, 1) := dk_96 (dk_at dksJ24_divideMagnitude_38 11 rfl rfl)
theorem dJ24_divideMagnitude_900 : decode cJ24_divideMagnitude 900 = .ok (.iload 19, 2) := dk_21 19 (dk_at dksJ24_divideMagnitude_38 12 rfl rfl)
theorem dJ24_divideMagnitude_902 : decode cJ24_divideMagnitude 902 = .ok (.if_icmp .ge 7, 3) := dk_162 0 7 (dk_at dksJ24_divideMagnitude_38 14 rfl rfl)
theorem dJ24_divideMagnitude_905 : decode cJ24_divideMagnitude 905 = .ok (.iconst 1, 1) := dk_4 (dk_at dksJ24_divideMagnitude_38 17 rfl rfl)
theorem dJ24_divideMagnitude_906 : decode cJ24_divideMagnitude 906 = .ok (.goto 4, 3) := dk_167 0 4 (dk_at dksJ24_divideMagnitude_38 18 rfl rfl)
theorem dJ24_divideMagnitude_909 : decode cJ24_divideMagnitude 909 = .ok (.iconst 0, 1) := dk_3 (dk_at dksJ24_divideMagnitude_38 21 rfl rfl)
theorem dJ24_divideMagnitude_910 : decode cJ24_divideMagnitude 910 = .ok (.istore 17, 2) := dk_54 17 (dk_at dksJ24_divideMagnitude_38 22 rfl rfl)
theorem dJ24_divideMagnitude_912 : decode cJ24_divideMagnitude 912 = .ok (.goto 75, 3) := dk_167 0 75 (dk_at dksJ24_divideMagnitude_39 0 rfl rfl)
theorem dJ24_divideMagnitude_915 : decode cJ24_divideMagnitude 915 = .ok (.iload 18, 2) := dk_21 18 (dk_at dksJ24_divideMagnitude_39 3 rfl rfl)
theorem dJ24_divideMagnitude_917 : decode cJ24_divideMagnitude 917 = .ok (.i2l, 1) := dk_133 (dk_at dksJ24_divideMagnitude_39 5 rfl rfl)
theorem dJ24_divideMagnitude_918 : decode cJ24_divideMagnitude 918 = .ok (.bipush 32, 2) := dk_16 32 (dk_at dksJ24_divideMagnitude_39 6 rfl rfl)
theorem dJ24_divideMagnitude_920 : decode cJ24_divideMagnitude 920 = .ok (.lshl, 1) := dk_121 (dk_at dksJ24_divideMagnitude_39 8 rfl rfl)
theorem dJ24_divideMagnitude_921 : decode cJ24_divideMagnitude 921 = .ok (.iload 20, 2) := dk_21 20 (dk_at dksJ24_divideMagnitude_39 9 rfl rfl)
theorem dJ24_divideMagnitude_923 : decode cJ24_divideMagnitude 923 = .ok (.i2l, 1) := dk_133 (dk_at dksJ24_divideMagnitude_39 11 rfl rfl)
theorem dJ24_divideMagnitude_924 : decode cJ24_divideMagnitude 924 = .ok (.ldc2_w 52, 3) := dk_20 0 52 (dk_at dksJ24_divideMagnitude_39 12 rfl rfl)
theorem dJ24_divideMagnitude_927 : decode cJ24_divideMagnitude 927 = .ok (.land, 1) := dk_127 (dk_at dksJ24_divideMagnitude_39 15 rfl rfl)
theorem dJ24_divideMagnitude_928 : decode cJ24_divideMagnitude 928 = .ok (.lor, 1) := dk_129 (dk_at dksJ24_divideMagnitude_39 16 rfl rfl)
theorem dJ24_divideMagnitude_929 : decode cJ24_divideMagnitude 929 = .ok (.lstore 21, 2) := dk_55 21 (dk_at dksJ24_divideMagnitude_39 17 rfl rfl)
theorem dJ24_divideMagnitude_931 : decode cJ24_divideMagnitude 931 = .ok (.lload 21, 2) := dk_22 21 (dk_at dksJ24_divideMagnitude_39 19 rfl rfl)
theorem dJ24_divideMagnitude_933 : decode cJ24_divideMagnitude 933 = .ok (.lconst 0, 1) := dk_9 (dk_at dksJ24_divideMagnitude_39 21 rfl rfl)
theorem dJ24_divideMagnitude_934 : decode cJ24_divideMagnitude 934 = .ok (.lcmp, 1) := dk_148 (dk_at dksJ24_divideMagnitude_39 22 rfl rfl)
theorem dJ24_divideMagnitude_935 : decode cJ24_divideMagnitude 935 = .ok (.ifCond .lt 26, 3) := dk_155 0 26 (dk_at dksJ24_divideMagnitude_40 0 rfl rfl)
theorem dJ24_divideMagnitude_938 : decode cJ24_divideMagnitude 938 = .ok (.lload 21, 2) := dk_22 21 (dk_at dksJ24_divideMagnitude_40 3 rfl rfl)
theorem dJ24_divideMagnitude_940 : decode cJ24_divideMagnitude 940 = .ok (.lload 12, 2) := dk_22 12 (dk_at dksJ24_divideMagnitude_40 5 rfl rfl)
theorem dJ24_divideMagnitude_942 : decode cJ24_divideMagnitude 942 = .ok (.ldiv, 1) := dk_109 (dk_at dksJ24_divideMagnitude_40 7 rfl rfl)
theorem dJ24_divideMagnitude_943 : decode cJ24_divideMagnitude 943 = .ok (.l2i, 1) := dk_136 (dk_at dksJ24_divideMagnitude_40 8 rfl rfl)
theorem dJ24_divideMagnitude_944 : decode cJ24_divideMagnitude 944 = .ok (.istore 15, 2) := dk_54 15 (dk_at dksJ24_divideMagnitude_40 9 rfl rfl)
theorem dJ24_divideMagnitude_946 : decode cJ24_divideMagnitude 946 = .ok (.lload 21, 2) := dk_22 21 (dk_at dksJ24_divideMagnitude_40 11 rfl rfl)
theorem dJ24_divideMagnitude_948 : decode cJ24_divideMagnitude 948 = .ok (.iload 15, 2) := dk_21 15 (dk_at dksJ24_divideMagnitude_40 13 rfl rfl)
theorem dJ24_divideMagnitude_950 : decode cJ24_divideMagnitude 950 = .ok (.i2l, 1) := dk_133 (dk_at dksJ24_divideMagnitude_40 15 rfl rfl)
theorem dJ24_divideMagnitude_951 : decode cJ24_divideMagnitude 951 = .ok (.lload 12, 2) := dk_22 12 (dk_at dksJ24_divideMagnitude_40 16 rfl rfl)
theorem dJ24_divideMagnitude_953 : decode cJ24_divideMagnitude 953 = .ok (.lmul, 1) := dk_105 (dk_at dksJ24_divideMagnitude_40 18 rfl rfl)
theorem dJ24_divideMagnitude_954 : decode cJ24_divideMagnitude 954 = .ok (.lsub, 1) := dk_101 (dk_at dksJ24_divideMagnitude_40 19 rfl rfl)
theorem dJ24_divideMagnitude_955 : decode cJ24_divideMagnitude 955 = .ok (.l2i, 1) := dk_136 (dk_at dksJ24_divideMagnitude_40 20 rfl rfl)
theorem dJ24_divideMagnitude_956 : decode cJ24_divideMagnitude 956 = .ok (.istore 16, 2) := dk_54 16 (dk_at dksJ24_divideMagnitude_40 21 rfl rfl)
theorem dJ24_divideMagnitude_958 : decode cJ24_divideMagnitude 958 = .ok (.goto 29, 3) := dk_167 0 29 (dk_at dksJ24_divideMagnitude_41 0 rfl rfl)
theorem dJ24_divideMagnitude_961 : decode cJ24_divideMagnitude 961 = .ok (.lload 21, 2) := dk_22 21 (dk_at dksJ24_divideMagnitude_41 3 rfl rfl)
theorem dJ24_divideMagnitude_963 : decode cJ24_divideMagnitude 963 = .ok (.iload 11, 2) := dk_21 11 (dk_at dksJ24_divideMagnitude_41 5 rfl rfl)
theorem dJ24_divideMagnitude_965 : decode cJ24_divideMagnitude 965 = .ok (.invokestatic 155, 3) := dk_184 0 155 (dk_at dksJ24_divideMagnitude_41 7 rfl rfl)
theorem dJ24_divideMagnitude_968 : decode cJ24_divideMagnitude 968 = .ok (.lstore 23, 2) := dk_55 23 (dk_at dksJ24_divideMagnitude_41 10 rfl rfl)
theorem dJ24_divideMagnitude_970 : decode cJ24_divideMagnitude 970 = .ok (.lload 23, 2) := dk_22 23 (dk_at dksJ24_divideMagnitude_41 12 rfl rfl)
theorem dJ24_divideMagnitude_972 : decode cJ24_divideMagnitude 972 = .ok (.ldc2_w 52, 3) := dk_20 0 52 (dk_at dksJ24_divideMagnitude_41 14 rfl rfl)
theorem dJ24_divideMagnitude_975 : decode cJ24_divideMagnitude 975 = .ok (.land, 1) := dk_127 (dk_at dksJ24_divideMagnitude_41 17 rfl rfl)
theorem dJ24_divideMagnitude_976 : decode cJ24_divideMagnitude 976 = .ok (.l2i, 1) := dk_136 (dk_at dksJ24_divideMagnitude_41 18 rfl rfl)
theorem dJ24_divideMagnitude_977 : decode cJ24_divideMagnitude 977 = .ok (.istore 15, 2) := dk_54 15 (dk_at dksJ24_divideMagnitude_41 19 rfl rfl)
theorem dJ24_divideMagnitude_979 : decode cJ24_divideMagnitude 979 = .ok (.lload 23, 2) := dk_22 23 (dk_at dksJ24_divideMagnitude_41 21 rfl rfl)
theorem dJ24_divideMagnitude_981 : decode cJ24_divideMagnitude 981 = .ok (.bipush 32, 2) := dk_16 32 (dk_at dksJ24_divideMagnitude_42 0 rfl rfl)
theorem dJ24_divideMagnitude_983 : decode cJ24_divideMagnitude 983 = .ok (.lushr, 1) := dk_125 (dk_at dksJ24_divideMagnitude_42 2 rfl rfl)
theorem dJ24_divideMagnitude_984 : decode cJ24_divideMagnitude 984 = .ok (.l2i, 1) := dk_136 (dk_at dksJ24_divideMagnitude_42 3 rfl rfl)
theorem dJ24_divideMagnitude_985 : decode cJ24_divideMagnitude 985 = .ok (.istore 16, 2) := dk_54 16 (dk_at dksJ24_divideMagnitude_42 4 rfl rfl)
theorem dJ24_divideMagnitude_987 : decode cJ24_divideMagnitude 987 = .ok (.iload 15, 2) := dk_21 15 (dk_at dksJ24_divideMagnitude_42 6 rfl rfl)
theorem dJ24_divideMagnitude_989 : decode cJ24_divideMagnitude 989 = .ok (.ifCond .eq 272, 3) := dk_153 1 16 (dk_at dksJ24_divideMagnitude_42 8 rfl rfl)
theorem dJ24_divideMagnitude_992 : decode cJ24_divideMagnitude 992 = .ok (.iload 17, 2) := dk_21 17 (dk_at dksJ24_divideMagnitude_42 11 rfl rfl)
theorem dJ24_divideMagnitude_994 : decode cJ24_divideMagnitude 994 = .ok (.ifCond .ne 139, 3) := dk_154 0 139 (dk_at dksJ24_divideMagnitude_42 13 rfl rfl)
theorem dJ24_divideMagnitude_997 : decode cJ24_divideMagnitude 997 = .ok (.aload 7, 2) := dk_25 7 (dk_at dksJ24_divideMagnitude_42 16 rfl rfl)
theorem dJ24_divideMagnitude_999 : decode cJ24_divideMagnitude 999 = .ok (.getfield 17, 3) := dk_180 0 17 (dk_at dksJ24_divideMagnitude_42 18 rfl rfl)
theorem dJ24_divideMagnitude_1002 : decode cJ24_divideMagnitude 1002 = .ok (.iload 9, 2) := dk_21 9 (dk_at dksJ24_divideMagnitude_42 21 rfl rfl)
theorem dJ24_divideMagnitude_1004 : decode cJ24_divideMagnitude 1004 = .ok (.iconst 1, 1) := dk_4 (dk_at dksJ24_divideMagnitude_42 23 rfl rfl)
theorem dJ24_divideMagnitude_1005 : decode cJ24_divideMagnitude 1005 = .ok (.iadd, 1) := dk_96 (dk_at dksJ24_divideMagnitude_43 0 rfl rfl)
theorem dJ24_divideMagnitude_1006 : decode cJ24_divideMagnitude 1006 = .ok (.aload 7, 2) := dk_25 7 (dk_at dksJ24_divideMagnitude_43 1 rfl rfl)
theorem dJ24_divideMagnitude_1008 : decode cJ24_divideMagnitude 1008 = .ok (.getfield 11, 3) := dk_180 0 11 (dk_at dksJ24_divideMagnitude_43 3 rfl rfl)
theorem dJ24_divideMagnitude_1011 : decode cJ24_divideMagnitude 1011 = .ok (.iadd, 1) := dk_96 (dk_at dksJ24_divideMagnitude_43 6 rfl rfl)
theorem dJ24_divideMagnitude_1012 : decode cJ24_divideMagnitude 1012 = .ok (.iaload, 1) := dk_46 (dk_at dksJ24_divideMagnitude_43 7 rfl rfl)
theorem dJ24_divideMagnitude_1013 : decode cJ24_divideMagnitude 1013 = .ok (.i2l, 1) := dk_133 (dk_at dksJ24_divideMagnitude_43 8 rfl rfl)
theorem dJ24_divideMagnitude_1014 : decode cJ24_divideMagnitude 1014 = .ok (.ldc2_w 52, 3) := dk_20 0 52 (dk_at dksJ24_divideMagnitude_43 9 rfl rfl)
theorem dJ24_divideMagnitude_1017 : decode cJ24_divideMagnitude 1017 = .ok (.land, 1) := dk_127 (dk_at dksJ24_divideMagnitude_43 12 rfl rfl)
theorem dJ24_divideMagnitude_1018 : decode cJ24_divideMagnitude 1018 = .ok (.lstore 21, 2) := dk_55 21 (dk_at dksJ24_divideMagnitude_43 13 rfl rfl)
theorem dJ24_divideMagnitude_1020 : decode cJ24_divideMagnitude 1020 = .ok (.iload 16, 2) := dk_21 16 (dk_at dksJ24_divideMagnitude_43 15 rfl rfl)
theorem dJ24_divideMagnitude_1022 : decode cJ24_divideMagnitude 1022 = .ok (.i2l, 1) := dk_133 (dk_at dksJ24_divideMagnitude_43 17 rfl rfl)
theorem dJ24_divideMagnitude_1023 : decode cJ24_divideMagnitude 1023 = .ok (.ldc2_w 52, 3) := dk_20 0 52 (dk_at dksJ24_divideMagnitude_43 18 rfl rfl)
theorem dJ24_divideMagnitude_1026 : decode cJ24_divideMagnitude 1026 = .ok (.land, 1) := dk_127 (dk_at dksJ24_divideMagnitude_43 21 rfl rfl)
theorem dJ24_divideMagnitude_1027 : decode cJ24_divideMagnitude 1027 = .ok (.bipush 32, 2) := dk_16 32 (dk_at dksJ24_divideMagnitude_43 22 rfl rfl)
theorem dJ24_divideMagnitude_1029 : decode cJ24_divideMagnitude 1029 = .ok (.lshl, 1) := dk_121 (dk_at dksJ24_divideMagnitude_44 0 rfl rfl)
theorem dJ24_divideMagnitude_1030 : decode cJ24_divideMagnitude 1030 = .ok (.lload 21, 2) := dk_22 21 (dk_at dksJ24_divideMagnitude_44 1 rfl rfl)
theorem dJ24_divideMagnitude_1032 : decode cJ24_divideMagnitude 1032 = .ok (.lor, 1) := dk_129 (dk_at dksJ24_divideMagnitude_44 3 rfl rfl)
theorem dJ24_divideMagnitude_1033 : decode cJ24_divideMagnitude 1033 = .ok (.lstore 23, 2) := dk_55 23 (dk_at dksJ24_divideMagnitude_44 4 rfl rfl)
theorem dJ24_divideMagnitude_1035 : decode cJ24_divideMagnitude 1035 = .ok (.iload 14, 2) := dk_21 14 (dk_at dksJ24_divideMagnitude_44 6 rfl rfl)
theorem dJ24_divideMagnitude_1037 : decode cJ24_divideMagnitude 1037 = .ok (.i2l, 1) := dk_133 (dk_at dksJ24_divideMagnitude_44 8 rfl rfl)
theorem dJ24_divideMagnitude_1038 : decode cJ24_divideMagnitude 1038 = .ok (.ldc2_w 52, 3) := dk_20 0 52 (dk_at dksJ24_divideMagnitude_44 9 rfl rfl)
theorem dJ24_divideMagnitude_1041 : decode cJ24_divideMagnitude 1041 = .ok (.land, 1) := dk_127 (dk_at dksJ24_divideMagnitude_44 12 rfl rfl)
theorem dJ24_divideMagnitude_1042 : decode cJ24_divideMagnitude 1042 = .ok (.iload 15, 2) := dk_21 15 (dk_at dksJ24_divideMagnitude_44 13 rfl rfl)
theorem dJ24_divideMagnitude_1044 : decode cJ24_divideMagnitude 1044 = .ok (.i2l, 1) := dk_133 (dk_at dksJ24_divideMagnitude_44 15 rfl rfl)
theorem dJ24_divideMagnitude_1045 : decode cJ24_divideMagnitude 1045 = .ok (.ldc2_w 52, 3) := dk_20 0 52 (dk_at dksJ24_divideMagnitude_44 16 rfl rfl)
theorem dJ24_divideMagnitude_1048 : decode cJ24_divideMagnitude 1048 = .ok (.land, 1) := dk_127 (dk_at dksJ24_divideMagnitude_44 19 rfl rfl)
theorem dJ24_divideMagnitude_1049 : decode cJ24_divideMagnitude 1049 = .ok (.lmul, 1) := dk_105 (dk_at dksJ24_divideMagnitude_44 20 rfl rfl)
theorem dJ24_divideMagnitude_1050 : decode cJ24_divideMagnitude 1050 = .ok (.lstore 25, 2) := dk_55 25 (dk_at dksJ24_divideMagnitude_44 21 rfl rfl)
theorem dJ24_divideMagnitude_1052 : decode cJ24_divideMagnitude 1052 = .ok (.aload_n 0, 1) := dk_42 (dk_at dksJ24_divideMagnitude_44 23 rfl rfl)
theorem dJ24_divideMagnitude_1053 : decode cJ24_divideMagnitude 1053 = .ok (.lload 25, 2) := dk_22 25 (dk_at dksJ24_divideMagnitude_45 0 rfl rfl)
theorem dJ24_divideMagnitude_1055 : decode cJ24_divideMagnitude 1055 = .ok (.lload 23, 2) := dk_22 23 (dk_at dksJ24_divideMagnitude_45 2 rfl rfl)
theorem dJ24_divideMagnitude_1057 : decode cJ24_divideMagnitude 1057 = .ok (.invokevirtual 273, 3) := dk_182 1 17 (dk_at dksJ24_divideMagnitude_45 4 rfl rfl)
theorem dJ24_divideMagnitude_1060 : decode cJ24_divideMagnitude 1060 = .ok (.ifCond .eq 73, 3) := dk_153 0 73 (dk_at dksJ24_divideMagnitude_45 7 rfl rfl)
theorem dJ24_divideMagnitude_1063 : decode cJ24_divideMagnitude 1063 = .ok (.iinc 15 (-1), 3) := dk_132 15 255 (dk_at dksJ24_divideMagnitude_45 10 rfl rfl)
theorem dJ24_divideMagnitude_1066 : decode cJ24_divideMagnitude 1066 = .ok (.iload 16, 2) := dk_21 16 (dk_at dksJ24_divideMagnitude_45 13 rfl rfl)
theorem dJ24_divideMagnitude_1068 : decode cJ24_divideMagnitude 1068 = .ok (.i2l, 1) := dk_133 (dk_at dksJ24_divideMagnitude_45 15 rfl rfl)
theorem dJ24_divideMagnitude_1069 : decode cJ24_divideMagnitude 1069 = .ok (.ldc2_w 52, 3) := dk_20 0 52 (dk_at dksJ24_divideMagnitude_45 16 rfl rfl)
theorem dJ24_divideMagnitude_1072 : decode cJ24_divideMagnitude 1072 = .ok (.land, 1) := dk_127 (dk_at dksJ24_divideMagnitude_45 19 rfl rfl)
theorem dJ24_divideMagnitude_1073 : decode cJ24_divideMagnitude 1073 = .ok (.lload 12, 2) := dk_22 12 (dk_at dksJ24_divideMagnitude_45 20 rfl rfl)
theorem dJ24_divideMagnitude_1075 : decode cJ24_divideMagnitude 1075 = .ok (.ladd, 1) := dk_97 (dk_at dksJ24_divideMagnitude_45 22 rfl rfl)
theorem dJ24_divideMagnitude_1076 : decode cJ24_divideMagnitude 1076 = .ok (.l2i, 1) := dk_136 (dk_at dksJ24_divideMagnitude_45 23 rfl rfl)
theorem dJ24_divideMagnitude_1077 : decode cJ24_divideMagnitude 1077 = .ok (.istore 16, 2) := dk_54 16 (dk_at dksJ24_divideMagnitude_46 0 rfl rfl)
theorem dJ24_divideMagnitude_1079 : decode cJ24_divideMagnitude 1079 = .ok (.iload 16, 2) := dk_21 16 (dk_at dksJ24_divideMagnitude_46 2 rfl rfl)
theorem dJ24_divideMagnitude_1081 : decode cJ24_divideMagnitude 1081 = .ok (.i2l, 1) := dk_133 (dk_at dksJ24_divideMagnitude_46 4 rfl rfl)
theorem dJ24_divideMagnitude_1082 : decode cJ24_divideMagnitude 1082 = .ok (.ldc2_w 52, 3) := dk_20 0 52 (dk_at dksJ24_divideMagnitude_46 5 rfl rfl)
theorem dJ24_divideMagnitude_1085 : decode cJ24_divideMagnitude 1085 = .ok (.land, 1) := dk_127 (dk_at dksJ24_divideMagnitude_46 8 rfl rfl)
theorem dJ24_divideMagnitude_1086 : decode cJ24_divideMagnitude 1086 = .ok (.lload 12, 2) := dk_22 12 (dk_at dksJ24_divideMagnitude_46 9 rfl rfl)
theorem dJ24_divideMagnitude_1088 : decode cJ24_divideMagnitude 1088 = .ok (.lcmp, 1) := dk_148 (dk_at dksJ24_divideMagnitude_46 11 rfl rfl)
theorem dJ24_divideMagnitude_1089 : decode cJ24_divideMagnitude 1089 = .ok (.ifCond .lt 44, 3) := dk_155 0 44 (dk_at dksJ24_divideMagnitude_46 12 rfl rfl)
theorem dJ24_divideMagnitude_1092 : decode cJ24_divideMagnitude 1092 = .ok (.lload 25, 2) := dk_22 25 (dk_at dksJ24_divideMagnitude_46 15 rfl rfl)
theorem dJ24_divideMagnitude_1094 : decode cJ24_divideMagnitude 1094 = .ok (.iload 14, 2) := dk_21 14 (dk_at dksJ24_divideMagnitude_46 17 rfl rfl)
theorem dJ24_divideMagnitude_1096 : decode cJ24_divideMagnitude 1096 = .ok (.i2l, 1) := dk_133 (dk_at dksJ24_divideMagnitude_46 19 rfl rfl)
theorem dJ24_divideMagnitude_1097 : decode cJ24_divideMagnitude 1097 = .ok (.ldc2_w 52, 3) := dk_20 0 52 (dk_at dksJ24_divideMagnitude_46 20 rfl rfl)
theorem dJ24_divideMagnitude_1100 : decode cJ24_divideMagnitude 1100 = .ok (.land, 1) := dk_127 (dk_at dksJ24_divideMagnitude_46 23 rfl rfl)
theorem dJ24_divideMagnitude_1101 : decode cJ24_divideMagnitude 1101 = .ok (.lsub, 1) := dk_101 (dk_at dksJ24_divideMagnitude_47 0 rfl rfl)
theorem dJ24_divideMagnitude_1102 : decode cJ24_divideMagnitude 1102 = .ok (.lstore 25, 2) := dk_55 25 (dk_at dksJ24_divideMagnitude_47 1 rfl rfl)
theorem dJ24_divideMagnitude_1104 : decode cJ24_divideMagnitude 1104 = .ok (.iload 16, 2) := dk_21 16 (dk_at dksJ24_divideMagnitude_47 3 rfl rfl)
theorem dJ24_divideMagnitude_1106 : decode cJ24_divideMagnitude 1106 = .ok (.i2l, 1) := dk_133 (dk_at dksJ24_divideMagnitude_47 5 rfl rfl)
theorem dJ24_divideMagnitude_1107 : decode cJ24_divideMagnitude 1107 = .ok (.ldc2_w 52, 3) := dk_20 0 52 (dk_at dksJ24_divideMagnitude_47 6 rfl rfl)
theorem dJ24_divideMagnitude_1110 : decode cJ24_divideMagnitude 1110 = .ok (.land, 1) := dk_127 (dk_at dksJ24_divideMagnitude_47 9 rfl rfl)
theorem dJ24_divideMagnitude_1111 : decode cJ24_divideMagnitude 1111 = .ok (.bipush 32, 2) := dk_16 32 (dk_at dksJ24_divideMagnitude_47 10 rfl rfl)
theorem dJ24_divideMagnitude_1113 : decode cJ24_divideMagnitude 1113 = .ok (.lshl, 1) := dk_121 (dk_at dksJ24_divideMagnitude_47 12 rfl rfl)
theorem dJ24_divideMagnitude_1114 : decode cJ24_divideMagnitude 1114 = .ok (.lload 21, 2) := dk_22 21 (dk_at dksJ24_divideMagnitude_47 13 rfl rfl)
theorem dJ24_divideMagnitude_1116 : decode cJ24_divideMagnitude 1116 = .ok (.lor, 1) := dk_129 (dk_at dksJ24_divideMagnitude_47 15 rfl rfl)
theorem dJ24_divideMagnitude_1117 : decode cJ24_divideMagnitude 1117 = .ok (.lstore 23, 2) := dk_55 23 (dk_at dksJ24_divideMagnitude_47 16 rfl rfl)
theorem dJ24_divideMagnitude_1119 : decode cJ24_divideMagnitude 1119 = .ok (.aload_n 0, 1) := dk_42 (dk_at dksJ24_divideMagnitude_47 18 rfl rfl)
theorem dJ24_divideMagnitude_1120 : decode cJ24_divideMagnitude 1120 = .ok (.lload 25, 2) := dk_22 25 (dk_at dksJ24_divideMagnitude_47 19 rfl rfl)
theorem dJ24_divideMagnitude_1122 : decode cJ24_divideMagnitude 1122 = .ok (.lload 23, 2) := dk_22 23 (dk_at dksJ24_divideMagnitude_47 21 rfl rfl)
theorem dJ24_divideMagnitude_1124 : decode cJ24_divideMagnitude 1124 = .ok (.invokevirtual 273, 3) := dk_182 1 17 (dk_at dksJ24_divideMagnitude_48 0 rfl rfl)
theorem dJ24_divideMagnitude_1127 : decode cJ24_divideMagnitude 1127 = .ok (.ifCond .eq 6, 3) := dk_153 0 6 (dk_at dksJ24_divideMagnitude_48 3 rfl rfl)
theorem dJ24_divideMagnitude_1130 : decode cJ24_divideMagnitude 1130 = .ok (.iinc 15 (-1), 3) := dk_132 15 255 (dk_at dksJ24_divideMagnitude_48 6 rfl rfl)
theorem dJ24_divideMagnitude_1133 : decode cJ24_divideMagnitude 1133 = .ok (.aload 7, 2) := dk_25 7 (dk_at dksJ24_divideMagnitude_48 9 rfl rfl)
theorem dJ24_divideMagnitude_1135 : decode cJ24_divideMagnitude 1135 = .ok (.getfield 17, 3) := dk_180 0 17 (dk_at dksJ24_divideMagnitude_48 11 rfl rfl)
theorem dJ24_divideMagnitude_1138 : decode cJ24_divideMagnitude 1138 = .ok (.iload 9, 2) := dk_21 9 (dk_at dksJ24_divideMagnitude_48 14 rfl rfl)
theorem dJ24_divideMagnitude_1140 : decode cJ24_divideMagnitude 1140 = .ok (.iconst 1, 1) := dk_4 (dk_at dksJ24_divideMagnitude_48 16 rfl rfl)
theorem dJ24_divideMagnitude_1141 : decode cJ24_divideMagnitude 1141 = .ok (.isub, 1) := dk_100 (dk_at dksJ24_divideMagnitude_48 17 rfl rfl)
theorem dJ24_divideMagnitude_1142 : decode cJ24_divideMagnitude 1142 = .ok (.aload 7, 2) := dk_25 7 (dk_at dksJ24_divideMagnitude_48 18 rfl rfl)
theorem dJ24_divideMagnitude_1144 : decode cJ24_divideMagnitude 1144 = .ok (.getfield 11, 3) := dk_180 0 11 (dk_at dksJ24_divideMagnitude_48 20 rfl rfl)
theorem dJ24_divideMagnitude_1147 : decode cJ24_divideMagnitude 1147 = .ok (.iadd, 1) := dk_96 (dk_at dksJ24_divideMagnitude_48 23 rfl rfl)
theorem dJ24_divideMagnitude_1148 : decode cJ24_divideMagnitude 1148 = .ok (.iconst 0, 1) := dk_3 (dk_at dksJ24_divideMagnitude_49 0 rfl rfl)
theorem dJ24_divideMagnitude_1149 : decode cJ24_divideMagnitude 1149 = .ok (.iastore, 1) := dk_79 (dk_at dksJ24_divideMagnitude_49 1 rfl rfl)
theorem dJ24_divideMagnitude_1150 : decode cJ24_divideMagnitude 1150 = .ok (.iload_n 3, 1) := dk_29 (dk_at dksJ24_divideMagnitude_49 2 rfl rfl)
theorem dJ24_divideMagnitude_1151 : decode cJ24_divideMagnitude 1151 = .ok (.ifCond .eq 33, 3) := dk_153 0 33 (dk_at dksJ24_divideMagnitude_49 3 rfl rfl)
theorem dJ24_divideMagnitude_1154 : decode cJ24_divideMagnitude 1154 = .ok (.aload_n 0, 1) := dk_42 (dk_at dksJ24_divideMagnitude_49 6 rfl rfl)
theorem dJ24_divideMagnitude_1155 : decode cJ24_divideMagnitude 1155 = .ok (.aload 7, 2) := dk_25 7 (dk_at dksJ24_divideMagnitude_49 7 rfl rfl)
theorem dJ24_divideMagnitude_1157 : decode cJ24_divideMagnitude 1157 = .ok (.getfield 17, 3) := dk_180 0 17 (dk_at dksJ24_divideMagnitude_49 9 rfl rfl)
theorem dJ24_divideMagnitude_1160 : decode cJ24_divideMagnitude 1160 = .ok (.aload 6, 2) := dk_25 6 (dk_at dksJ24_divideMagnitude_49 12 rfl rfl)
theorem dJ24_divideMagnitude_1162 : decode cJ24_divideMagnitude 1162 = .ok (.iload 15, 2) := dk_21 15 (dk_at dksJ24_divideMagnitude_49 14 rfl rfl)
theorem dJ24_divideMagnitude_1164 : decode cJ24_divideMagnitude 1164 = .ok (.iload 5, 2) := dk_21 5 (dk_at dksJ24_divideMagnitude_49 16 rfl rfl)
theorem dJ24_divideMagnitude_1166 : decode cJ24_divideMagnitude 1166 = .ok (.iload 9, 2) := dk_21 9 (dk_at dksJ24_divideMagnitude_49 18 rfl rfl)
theorem dJ24_divideMagnitude_1168 : decode cJ24_divideMagnitude 1168 = .ok (.iconst 1, 1) := dk_4 (dk_at dksJ24_divideMagnitude_49 20 rfl rfl)
theorem dJ24_divideMagnitude_1169 : decode cJ24_divideMagnitude 1169 = .ok (.isub, 1) := dk_100 (dk_at dksJ24_divideMagnitude_49 21 rfl rfl)
theorem dJ24_divideMagnitude_1170 : decode cJ24_divideMagnitude 1170 = .ok (.aload 7, 2) := dk_25 7 (dk_at dksJ24_divideMagnitude_49 22 rfl rfl)
theorem dJ24_divideMagnitude_1172 : decode cJ24_divideMagnitude 1172 = .ok (.getfield 11, 3) := dk_180 0 11 (dk_at dksJ24_divideMagnitude_50 0 rfl rfl)
theorem dJ24_divideMagnitude_1175 : decode cJ24_divideMagnitude 1175 = .ok (.iadd, 1) := dk_96 (dk_at dksJ24_divideMagnitude_50 3 rfl rfl)
theorem dJ24_divideMagnitude_1176 : decode cJ24_divideMagnitude 1176 = .ok (.invokevirtual 277, 3) := dk_182 1 21 (dk_at dksJ24_divideMagnitude_50 4 rfl rfl)
theorem dJ24_divideMagnitude_1179 : decode cJ24_divideMagnitude 1179 = .ok (.istore 21, 2) := dk_54 21 (dk_at dksJ24_divideMagnitude_50 7 rfl rfl)
theorem dJ24_divideMagnitude_1181 : decode cJ24_divideMagnitude 1181 = .ok (.goto 30, 3) := dk_167 0 30 (dk_at dksJ24_divideMagnitude_50 9 rfl rfl)
theorem dJ24_divideMagnitude_1184 : decode cJ24_divideMagnitude 1184 = .ok (.aload_n 0, 1) := dk_42 (dk_at dksJ24_divideMagnitude_50 12 rfl rfl)
theorem dJ24_divideMagnitude_1185 : decode cJ24_divideMagnitude 1185 = .ok (.aload 7, 2) := dk_25 7 (dk_at dksJ24_divideMagnitude_50 13 rfl rfl)
theorem dJ24_divideMagnitude_1187 : decode cJ24_divideMagnitude 1187 = .ok (.getfield 17, 3) := dk_180 0 17 (dk_at dksJ24_divideMagnitude_50 15 rfl rfl)
theorem dJ24_divideMagnitude_1190 : decode cJ24_divideMagnitude 1190 = .ok (.aload 6, 2) := dk_25 6 (dk_at dksJ24_divideMagnitude_50 18 rfl rfl)
theorem dJ24_divideMagnitude_1192 : decode cJ24_divideMagnitude 1192 = .ok (.iload 15, 2) := dk_21 15 (dk_at dksJ24_divideMagnitude_50 20 rfl rfl)
theorem dJ24_divideMagnitude_1194 : decode cJ24_divideMagnitude 1194 = .ok (.iload 5, 2) := dk_21 5 (dk_at dksJ24_divideMagnitude_50 22 rfl rfl)
theorem dJ24_divideMagnitude_1196 : decode cJ24_divideMagnitude 1196 = .ok (.iload 9, 2) := dk_21 9 (dk_at dksJ24_divideMagnitude_51 0 rfl rfl)
theorem dJ24_divideMagnitude_1198 : decode cJ24_divideMagnitude 1198 = .ok (.iconst 1, 1) := dk_4 (dk_at dksJ24_divideMagnitude_51 2 rfl rfl)
theorem dJ24_divideMagnitude_1199 : decode cJ24_divideMagnitude 1199 = .ok (.isub, 1) := dk_100 (dk_at dksJ24_divideMagnitude_51 3 rfl rfl)
theorem dJ24_divideMagnitude_1200 : decode cJ24_divideMagnitude 1200 = .ok (.aload 7, 2) := dk_25 7 (dk_at dksJ24_divideMagnitude_51 4 rfl rfl)
theorem dJ24_divideMagnitude_1202 : decode cJ24_divideMagnitude 1202 = .ok (.getfield 11, 3) := dk_180 0 11 (dk_at dksJ24_divideMagnitude_51 6 rfl rfl)
theorem dJ24_divideMagnitude_1205 : decode cJ24_divideMagnitude 1205 = .ok (.iadd, 1) := dk_96 (dk_at dksJ24_divideMagnitude_51 9 rfl rfl)
theorem dJ24_divideMagnitude_1206 : decode cJ24_divideMagnitude 1206 = .ok (.invokevirtual 285, 3) := dk_182 1 29 (dk_at dksJ24_divideMagnitude_51 10 rfl rfl)
theorem dJ24_divideMagnitude_1209 : decode cJ24_divideMagnitude 1209 = .ok (.istore 21, 2) := dk_54 21 (dk_at dksJ24_divideMagnitude_51 13 rfl rfl)
theorem dJ24_divideMagnitude_1211 : decode cJ24_divideMagnitude 1211 = .ok (.iload 21, 2) := dk_21 21 (dk_at dksJ24_divideMagnitude_51 15 rfl rfl)
theorem dJ24_divideMagnitude_1213 : decode cJ24_divideMagnitude 1213 = .ok (.ldc 88, 2) := dk_18 88 (dk_at dksJ24_divideMagnitude_51 17 rfl rfl)
theorem dJ24_divideMagnitude_1215 : decode cJ24_divideMagnitude 1215 = .ok (.iadd, 1) := dk_96 (dk_at dksJ24_divideMagnitude_51 19 rfl rfl)
theorem dJ24_divideMagnitude_1216 : decode cJ24_divideMagnitude 1216 = .ok (.iload 19, 2) := dk_21 19 (dk_at dksJ24_divideMagnitude_51 20 rfl rfl)
theorem dJ24_divideMagnitude_1218 : decode cJ24_divideMagnitude 1218 = .ok (.if_icmp .le 34, 3) := dk_164 0 34 (dk_at dksJ24_divideMagnitude_52 0 rfl rfl)
theorem dJ24_divideMagnitude_1221 : decode cJ24_divideMagnitude 1221 = .ok (.iload_n 3, 1) := dk_29 (dk_at dksJ24_divideMagnitude_52 3 rfl rfl)
theorem dJ24_divideMagnitude_1222 : decode cJ24_divideMagnitude 1222 = .ok (.ifCond .eq 27, 3) := dk_153 0 27 (dk_at dksJ24_divideMagnitude_52 4 rfl rfl)
theorem dJ24_divideMagnitude_1225 : decode cJ24_divideMagnitude 1225 = .ok (.aload_n 0, 1) := dk_42 (dk_at dksJ24_divideMagnitude_52 7 rfl rfl)
theorem dJ24_divideMagnitude_1226 : decode cJ24_divideMagnitude 1226 = .ok (.aload 6, 2) := dk_25 6 (dk_at dksJ24_divideMagnitude_52 8 rfl rfl)
theorem dJ24_divideMagnitude_1228 : decode cJ24_divideMagnitude 1228 = .ok (.aload 7, 2) := dk_25 7 (dk_at dksJ24_divideMagnitude_52 10 rfl rfl)
theorem dJ24_divideMagnitude_1230 : decode cJ24_divideMagnitude 1230 = .ok (.getfield 17, 3) := dk_180 0 17 (dk_at dksJ24_divideMagnitude_52 12 rfl rfl)
theorem dJ24_divideMagnitude_1233 : decode cJ24_divideMagnitude 1233 = .ok (.iload 9, 2) := dk_21 9 (dk_at dksJ24_divideMagnitude_52 15 rfl rfl)
theorem dJ24_divideMagnitude_1235 : decode cJ24_divideMagnitude 1235 = .ok (.iconst 1, 1) := dk_4 (dk_at dksJ24_divideMagnitude_52 17 rfl rfl)
theorem dJ24_divideMagnitude_1236 : decode cJ24_divideMagnitude 1236 = .ok (.isub, 1) := dk_100 (dk_at dksJ24_divideMagnitude_52 18 rfl rfl)
theorem dJ24_divideMagnitude_1237 : decode cJ24_divideMagnitude 1237 = .ok (.iconst 1, 1) := dk_4 (dk_at dksJ24_divideMagnitude_52 19 rfl rfl)
theorem dJ24_divideMagnitude_1238 : decode cJ24_divideMagnitude 1238 = .ok (.iadd, 1) := dk_96 (dk_at dksJ24_divideMagnitude_52 20 rfl rfl)
theorem dJ24_divideMagnitude_1239 : decode cJ24_divideMagnitude 1239 = .ok (.aload 7, 2) := dk_25 7 (dk_at dksJ24_divideMagnitude_52 21 rfl rfl)
theorem dJ24_divideMagnitude_1241 : decode cJ24_divideMagnitude 1241 = .ok (.getfield 11, 3) := dk_180 0 11 (dk_at dksJ24_divideMagnitude_53 0 rfl rfl)
theorem dJ24_divideMagnitude_1244 : decode cJ24_divideMagnitude 1244 = .ok (.iadd, 1) := dk_96 (dk_at dksJ24_divideMagnitude_53 3 rfl rfl)
theorem dJ24_divideMagnitude_1245 : decode cJ24_divideMagnitude 1245 = .ok (.invokevirtual 281, 3) := dk_182 1 25 (dk_at dksJ24_divideMagnitude_53 4 rfl rfl)
theorem dJ24_divideMagnitude_1248 : decode cJ24_divideMagnitude 1248 = .ok (.pop, 1) := dk_87 (dk_at dksJ24_divideMagnitude_53 7 rfl rfl)
theorem dJ24_divideMagnitude_1249 : decode cJ24_divideMagnitude 1249 = .ok (.iinc 15 (-1), 3) := dk_132 15 255 (dk_at dksJ24_divideMagnitude_53 8 rfl rfl)
theorem dJ24_divideMagnitude_1252 : decode cJ24_divideMagnitude 1252 = .ok (.aload 10, 2) := dk_25 10 (dk_at dksJ24_divideMagnitude_53 11 rfl rfl)
theorem dJ24_divideMagnitude_1254 : decode cJ24_divideMagnitude 1254 = .ok (.iload 9, 2) := dk_21 9 (dk_at dksJ24_divideMagnitude_53 13 rfl rfl)
theorem dJ24_divideMagnitude_1256 : decode cJ24_divideMagnitude 1256 = .ok (.iconst 1, 1) := dk_4 (dk_at dksJ24_divideMagnitude_53 15 rfl rfl)
theorem dJ24_divideMagnitude_1257 : decode cJ24_divideMagnitude 1257 = .ok (.isub, 1) := dk_100 (dk_at dksJ24_divideMagnitude_53 16 rfl rfl)
theorem dJ24_divideMagnitude_1258 : decode cJ24_divideMagnitude 1258 = .ok (.iload 15, 2) := dk_21 15 (dk_at dksJ24_divideMagnitude_53 17 rfl rfl)
theorem dJ24_divideMagnitude_1260 : decode cJ24_divideMagnitude 1260 = .ok (.iastore, 1) := dk_79 (dk_at dksJ24_divideMagnitude_53 19 rfl rfl)
theorem dJ24_divideMagnitude_1261 : decode cJ24_divideMagnitude 1261 = .ok (.iload_n 3, 1) := dk_29 (dk_at dksJ24_divideMagnitude_53 20 rfl rfl)
theorem dJ24_divideMagnitude_1262 : decode cJ24_divideMagnitude 1262 = .ok (.ifCond .eq 20, 3) := dk_153 0 20 (dk_at dksJ24_divideMagnitude_53 21 rfl rfl)
theorem dJ24_divideMagnitude_1265 : decode cJ24_divideMagnitude 1265 = .ok (.iload 4, 2) := dk_21 4 (dk_at dksJ24_divideMagnitude_54 0 rfl rfl)
theorem dJ24_divideMagnitude_1267 : decode cJ24_divideMagnitude 1267 = .ok (.ifCond .le 10, 3) := dk_158 0 10 (dk_at dksJ24_divideMagnitude_54 2 rfl rfl)
theorem dJ24_divideMagnitude_1270 : decode cJ24_divideMagnitude 1270 = .ok (.aload 7, 2) := dk_25 7 (dk_at dksJ24_divideMagnitude_54 5 rfl rfl)
theorem dJ24_divideMagnitude_1272 : decode cJ24_divideMagnitude 1272 = .ok (.iload 4, 2) := dk_21 4 (dk_at dksJ24_divideMagnitude_54 7 rfl rfl)
theorem dJ24_divideMagnitude_1274 : decode cJ24_divideMagnitude 1274 = .ok (.invokevirtual 108, 3) := dk_182 0 108 (dk_at dksJ24_divideMagnitude_54 9 rfl rfl)
theorem dJ24_divideMagnitude_1277 : decode cJ24_divideMagnitude 1277 = .ok (.aload 7, 2) := dk_25 7 (dk_at dksJ24_divideMagnitude_54 12 rfl rfl)
theorem dJ24_divideMagnitude_1279 : decode cJ24_divideMagnitude 1279 = .ok (.invokevirtual 64, 3) := dk_182 0 64 (dk_at dksJ24_divideMagnitude_54 14 rfl rfl)
theorem dJ24_divideMagnitude_1282 : decode cJ24_divideMagnitude 1282 = .ok (.aload_n 2, 1) := dk_44 (dk_at dksJ24_divideMagnitude_54 17 rfl rfl)
theorem dJ24_divideMagnitude_1283 : decode cJ24_divideMagnitude 1283 = .ok (.invokevirtual 64, 3) := dk_182 0 64 (dk_at dksJ24_divideMagnitude_54 18 rfl rfl)
theorem dJ24_divideMagnitude_1286 : decode cJ24_divideMagnitude 1286 = .ok (.iload_n 3, 1) := dk_29 (dk_at dksJ24_divideMagnitude_54 21 rfl rfl)
theorem dJ24_divideMagnitude_1287 : decode cJ24_divideMagnitude 1287 = .ok (.ifCond .eq 8, 3) := dk_153 0 8 (dk_at dksJ24_divideMagnitude_55 0 rfl rfl)
theorem dJ24_divideMagnitude_1290 : decode cJ24_divideMagnitude 1290 = .ok (.aload 7, 2) := dk_25 7 (dk_at dksJ24_divideMagnitude_55 3 rfl rfl)
theorem dJ24_divideMagnitude_1292 : decode cJ24_divideMagnitude 1292 = .ok (.goto 4, 3) := dk_167 0 4 (dk_at dksJ24_divideMagnitude_55 5 rfl rfl)
theorem dJ24_divideMagnitude_1295 : decode cJ24_divideMagnitude 1295 = .ok (.aconst_null, 1) := dk_1 (dk_at dksJ24_divideMagnitude_55 8 rfl rfl)
theorem dJ24_divideMagnitude_1296 : decode cJ24_divideMagnitude 1296 = .ok (.areturn, 1) := dk_176 (dk_at dksJ24_divideMagnitude_55 9 rfl rfl)
theorem yd_J24_copyAndShift : yJ24_copyAndShift.cls ≠ "java/lang/invoke/MethodHandle" ∧ yJ24_copyAndShift.cls ≠ "java/lang/invoke/VarHandle" ∧ (parseMethodDescriptor yJ24_copyAndShift.desc).map (fun d => d.parameters.length) = some 6 := by decide +kernel
theorem yd_J24_divWord : yJ24_divWord.cls ≠ "java/lang/invoke/MethodHandle" ∧ yJ24_divWord.cls ≠ "java/lang/invoke/VarHandle" ∧ (parseMethodDescriptor yJ24_divWord.desc).map (fun d => d.parameters.length) = some 2 := by decide +kernel
theorem ydv_J24_divadd : yJ24_divadd.cls = "java/math/MutableBigInteger" ∧ yJ24_divadd.cls ≠ "java/lang/invoke/MethodHandle" ∧ yJ24_divadd.cls ≠ "java/lang/invoke/VarHandle" ∧ (parseMethodDescriptor yJ24_divadd.desc).map (fun d => d.parameters.length) = some 3 := by decide +kernel
theorem yd_J24_init_2 : yJ24_init_2.cls ≠ "java/lang/invoke/MethodHandle" ∧ yJ24_init_2.cls ≠ "java/lang/invoke/VarHandle" ∧ (parseMethodDescriptor yJ24_init_2.desc).map (fun d => d.parameters.length) = some 1 := by decide +kernel
theorem ydv_J24_mulsub : yJ24_mulsub.cls = "java/math/MutableBigInteger" ∧ yJ24_mulsub.cls ≠ "java/lang/invoke/MethodHandle" ∧ yJ24_mulsub.cls ≠ "java/lang/invoke/VarHandle" ∧ (parseMethodDescriptor yJ24_mulsub.desc).map (fun d => d.parameters.length) = some 5 := by decide +kernel
theorem ydv_J24_mulsubBorrow : yJ24_mulsubBorrow.cls = "java/math/MutableBigInteger" ∧ yJ24_mulsubBorrow.cls ≠ "java/lang/invoke/MethodHandle" ∧ yJ24_mulsubBorrow.cls ≠ "java/lang/invoke/VarHandle" ∧ (parseMethodDescriptor yJ24_mulsubBorrow.desc).map (fun d => d.parameters.length) = some 5 := by decide +kernel
theorem ydv_J24_unsignedLongCompare : yJ24_unsignedLongCompare.cls = "java/math/MutableBigInteger" ∧ yJ24_unsignedLongCompare.cls ≠ "java/lang/invoke/MethodHandle" ∧ yJ24_unsignedLongCompare.cls ≠ "java/lang/invoke/VarHandle" ∧ (parseMethodDescriptor yJ24_unsignedLongCompare.desc).map (fun d => d.parameters.length) = some 2 := by decide +kernel
/-! ### answers that are null -/
def gRn (A : Nat → Prop) (H0 : Heap) (post : Heap → Prop) : Array Value → State → Outcome → State → Prop := fun _ _ oc t => (oc = .returned (some .null) ∧ post t.heap) ∧ gex A H0 t.heap
section GCN
variable {p : Program} {l : Launch} {e : Env} {R : Room} {s : State} {m : MethodId} {args : Array Value} {below : List Frame} {meth : Method} {c : Code} {H : Heap} {locs : List Loc} {cells slots : Nat} {Q : State → Prop}
variable {cc : ByteArray} {pc : Nat} {ls : Array Slot} {rest st0 : List Value} {z : State} {A0 A1 : Nat → Prop} {H0 : Heap} {mc ms nL index maxL : Nat} {own C : String} {y : MethodName} {bytes : ByteArray} {ret : Option FieldType} {rm : Room} {aa : Array Value} {b : Nat}
theorem g_nret {rt : FieldType} {post : Heap → Prop} (hx : p.tables.exec = Jvm.exec) (hb : c.code = cc) (hr : meth.sig.returnType = some rt) (hlocks : meth.locks = false) (hrt : (∃ n, rt = .object n) ∨ ∃ t, rt = .array t) (hS : va_S A0 H0 H locs) (h1 : cells ≤ mc) (h2 : slots ≤ ms) (hp : post H) (hdg : decode cc pc = .ok (.areturn, 1)) : W p l e R s m args below meth c H locs cells slots (MQ below (gRn A0 H0 post) args s mc ms A0) (F0 m pc ls [.null]) :=
  W.widen h1 h2 (W.aret hx hb hr hrt (Or.inl rfl) (fun t ht _ => ⟨⟨rfl, by rw [ht]; exact hp⟩, by rw [ht]; exact ⟨hS.1, hS.2.1⟩⟩) hS.2.2 hdg hlocks)
theorem g_run_n {post : Heap → Prop} (hr : va_Run p l e R s m args below meth c H locs cells slots mc ms (F0 m pc ls st0) rest (gRn A1 H post aa) A1) (hS : va_S A0 H0 H locs) (hA : ∀ q, A1 q → A0 q)
    (kk : ∀ (H1 : Heap) (locs1 : List Loc), post H1 → gex A1 H H1 → va_S A0 H0 H1 locs1 → W p l e R s m args below meth c H1 locs1 (cells + mc) (slots + ms) Q (F0 m (pc + 3) ls (.null :: rest))) : W p l e R s m args below meth c H locs cells slots Q (F0 m pc ls st0) := by
  intro T hT X
  obtain ⟨v, st₀, t, T', L, h0, X', hL, e1, e2, ⟨⟨hv, hp⟩, hz, hk⟩, st⟩ := hr T hT X
  cases hv
  obtain ⟨t2, a1, b1⟩ := kk T'.heap (locs ++ L) (by rw [e1]; exact hp) ⟨by rw [e1]; exact hz, fun q h1 h2 => by rw [e1]; exact hk q h1 h2⟩
    ⟨Nat.le_trans hS.1 (by rw [e1]; exact hz), fun q h1 h2 => by rw [e1, hk q (Nat.lt_of_lt_of_le h1 hS.1) (fun z => h2 (hA q z))]; exact hS.2.1 q h1 h2, fun q hq => by
      rcases List.mem_append.mp hq with h | h
      · exact hS.2.2 q h
      · exact hA _ (hL q h)⟩ T' rfl X'
  exact ⟨t2, st t2 a1, b1⟩
theorem gcV3_n {fr lo : Nat} {v1 v2 v3 : Value} {post : Heap → Prop} (hCF : CallFix p m c cc nL s args lw_all own) (hwm : z.WarmedH s.vm) (hls : ls.size = nL) (hM : Met l y (ws_ y bytes maxL ret) { frames := fr, cells := mc, slots := ms, locals := lo } (gPc z H [.ref b, v1, v2, v3]) (gRn A1 H post) mc ms A1) (hw : GoodIn lw_all (wsV own index C y (ws_ y bytes maxL ret))) (hd : y.cls = C ∧ y.cls ≠ "java/lang/invoke/MethodHandle" ∧ y.cls ≠ "java/lang/invoke/VarHandle" ∧ (parseMethodDescriptor y.desc).map (fun d => d.parameters.length) = some 3) (hrc : ∃ cell : Cell, H[b]? = some cell ∧ cell.vm.isStatics = false ∧ s.vm.findClass C = some cell.cls) (hS : va_S A0 H0 H locs) (hA : ∀ q, A1 q → A0 q) (hR : fr + 1 ≤ R.frames ∧ 8 + (maxL + 11) + lo ≤ R.locals) (hf : cells + mc ≤ R.cells ∧ slots + ms ≤ R.slots) (h8 : (rest.map fun v => v.category).sum ≤ 8) (hdg : decode cc pc = .ok (.invokevirtual index, 3))
    (kk : ∀ (H1 : Heap) (locs1 : List Loc), post H1 → gex A1 H H1 → va_S A0 H0 H1 locs1 → W p l e R s m args below meth c H1 locs1 (cells + mc) (slots + ms) Q (F0 m (pc + 3) ls (.null :: rest))) : W p l e R s m args below meth c H locs cells slots Q (F0 m pc ls (v3 :: v2 :: v1 :: .ref b :: rest)) :=
  g_run_n (va_runV (As := [v1, v2, v3]) (rest := rest) hCF hM (cwV 3 hCF.2.2.2.2 hw rfl rfl rfl hd hR) ⟨gPc.blind, hrc, fun U hU hW => g_pre hwm U hU hW⟩ rfl rfl hls rfl (lv_room h8) hdg hf) hS hA kk
end GCN
/-! ### Knuth's division: the start -/
theorem seg_pos {d : Nat → Nat} {o n : Nat} (hn : 0 < n) (h : 0 < d o) : 0 < seg d o n := by
  obtain ⟨t, rfl⟩ : ∃ t, n = t + 1 := ⟨n - 1, by omega⟩
  rw [seg_l]
  have := Nat.mul_pos h (Nat.pow_pos (n := t) (show 0 < 4294967296 by decide))
  omega
theorem kn_nh {g ee : Nat → Nat} (he : ∀ i, ee i < 4294967296) {j m : Nat} (hm : 0 < m) (h : seg g j m < seg ee 0 m) : g j ≤ ee 0 := by
  obtain ⟨t, rfl⟩ : ∃ t, m = t + 1 := ⟨m - 1, by omega⟩
  refine Decidable.byContradiction fun q => ?_
  rw [seg_l g, seg_l ee] at h
  have h1 := seg_lt he (0 + 1) t
  have h2 : (ee 0 + 1) * 4294967296 ^ t ≤ g j * 4294967296 ^ t := Nat.mul_le_mul_right _ (by omega)
  rw [Nat.add_mul, Nat.one_mul] at h2
  omega
theorem kn_in {g ee : Nat → Nat} (hg : ∀ i, g i < 4294967296) {m x : Nat} (hm : 2 ≤ m) (hx : x = 0) (h : 2147483648 ≤ ee 0) : seg (dup g 0 x) 0 m < seg ee 0 m := by
  obtain ⟨t, rfl⟩ : ∃ t, m = t + 1 := ⟨m - 1, by omega⟩
  rw [seg_l, seg_l ee, dup_s, hx, Nat.zero_mul, seg_cg (d := dup g 0 0) (e := g) (fun i h1 h2 => dup_n (by omega))]
  have h1 := seg_lt hg (0 + 1) t
  have h2 : 1 * 4294967296 ^ t ≤ ee 0 * 4294967296 ^ t := Nat.mul_le_mul_right _ (by omega)
  omega
theorem kn_in2 {g : Nat → Nat} {m lim nl x N : Nat} (hx : x = 0) (hl : nl + 1 = lim + m) (h : seg g 1 nl = N) (F G : Nat) : N = seg (fun _ => 0) 0 0 * F * G + seg (dup g 0 x) 0 (m + (lim - 0)) := by
  rw [seg_z, Nat.zero_mul, Nat.zero_mul, Nat.zero_add, show m + (lim - 0) = nl + 1 by omega, seg_l, dup_s, hx, Nat.zero_mul, Nat.zero_add, seg_cg (d := dup g 0 0) (e := g) (fun i h1 h2 => dup_n (by omega))]
  exact h.symm
theorem kn_dec {q d : Nat} (h : 0 < q) : (q - 1) * d + d = q * d := by
  obtain ⟨t, rfl⟩ : ∃ t, q = t + 1 := ⟨q - 1, by omega⟩
  rw [Nat.add_sub_cancel, Nat.add_mul, Nat.one_mul]
theorem kn_two {q dl v : Nat} (h : v < dl * q - dl) : 2 ≤ q := by
  refine Decidable.byContradiction fun h1 => ?_
  have h2 : dl * q ≤ dl * 1 := Nat.mul_le_mul_left _ (by omega)
  omega
theorem kn_zero {g ee : Nat → Nat} (hg : ∀ i, g i < 4294967296) (he : ∀ i, ee i < 4294967296) {j m : Nat} (hm : 2 ≤ m) (h : g j * 4294967296 + g (j + 1) < ee 0) : g j = 0 ∧ seg g j (m + 1) < seg ee 0 m ∧ seg g j (m + 1) = seg g (j + 1) m := by
  have h1 := he 0
  have h0 : g j = 0 := by omega
  have e1 : seg g j (m + 1) = seg g (j + 1) m := by rw [seg_l, h0, Nat.zero_mul, Nat.zero_add]
  refine ⟨h0, ?_, e1⟩
  rw [e1]
  obtain ⟨t, rfl⟩ : ∃ t, m = t + 1 := ⟨m - 1, by omega⟩
  rw [seg_l g, seg_l ee]
  have h2 := seg_lt hg (j + 1 + 1) t
  have h3 : (g (j + 1) + 1) * 4294967296 ^ t ≤ ee 0 * 4294967296 ^ t := Nat.mul_le_mul_right _ (by omega)
  rw [Nat.add_mul, Nat.one_mul] at h3
  omega
theorem kn_xb {g ee : Nat → Nat} (hg : ∀ i, g i < 4294967296) {j m : Nat} (h : seg g j m < seg ee 0 m) : seg g j (m + 1) < seg ee 0 m * 4294967296 := by
  rw [seg_r]
  have := hg (j + m)
  have h2 : (seg g j m + 1) * 4294967296 ≤ seg ee 0 m * 4294967296 := Nat.mul_le_mul_right _ h
  omega
/-- the divisor shifted: its first digit's first bit is set -/
theorem kn_norm {d e1 : Nat → Nat} (hd : ∀ i, d i < 4294967296) (he : ∀ i, e1 i < 4294967296) {m b s : Nat} (hm : 0 < m) (h0 : 0 < d 0) (hb : isBl (d 0) b) (hbs : b + s = 32) (h : seg e1 0 m = seg d 0 m * 2 ^ s) : 2147483648 ≤ e1 0 := by
  obtain ⟨t, rfl⟩ : ∃ t, m = t + 1 := ⟨m - 1, by omega⟩
  refine Decidable.byContradiction fun q => ?_
  have h1 : 2 ^ (b - 1) ≤ d 0 := by
    rcases hb.2 with c | c
    · rw [c] at hb
      have := hb.1
      rw [show (2 : Nat) ^ 0 = 1 from rfl] at this
      omega
    · exact c
  have hb1 : 1 ≤ b := by
    rcases Nat.eq_zero_or_pos b with c | c
    · rw [c] at hb
      have := hb.1
      rw [show (2 : Nat) ^ 0 = 1 from rfl] at this
      omega
    · exact c
  have h2 : 2147483648 ≤ d 0 * 2 ^ s := by
    have c : 2 ^ (b - 1) * 2 ^ s ≤ d 0 * 2 ^ s := Nat.mul_le_mul_right _ h1
    rw [← Nat.pow_add, show b - 1 + s = 31 by omega] at c
    exact c
  rw [seg_l, seg_l d, Nat.add_mul] at h
  have h3 := seg_lt he (0 + 1) t
  have h4 : (e1 0 + 1) * 4294967296 ^ t ≤ (d 0 * 2 ^ s) * 4294967296 ^ t := Nat.mul_le_mul_right _ (by omega)
  have h5 : (d 0 * 2 ^ s) * 4294967296 ^ t = d 0 * 4294967296 ^ t * 2 ^ s := Nat.mul_right_comm _ _ _
  rw [Nat.add_mul, Nat.one_mul] at h4
  omega
theorem kn_shl {d gg : Nat → Nat} (hd : ∀ i, d i < 4294967296) {n s b o : Nat} (hn : 0 < n) (hs : s < 32) (h0 : d 0 < 2 ^ b) (hb : b + s ≤ 32) (h : seg gg o n = seg (shl (fun j => d (0 + j)) s n) 0 n) : seg gg o n = seg d 0 n * 2 ^ s := by
  have e1 : (fun j => d (0 + j)) = d := funext fun j => by rw [Nat.zero_add]
  rw [e1] at h
  have q := shl_val hd (s := s) hs n n 0 (by omega) hn
  have h1 : d 0 / 2 ^ (32 - s) = 0 := Nat.div_eq_of_lt (Nat.lt_of_lt_of_le h0 (Nat.pow_le_pow_right (by decide) (by omega)))
  rw [h1, Nat.zero_mul, Nat.zero_add, ← h] at q
  exact q
/-- a MutableBigInteger b with its array at v1, normalized, of value Q -/
def mV (z : State) (H : Heap) (b v1 N Q : Nat) : Prop := ∃ (n1 o1 nv1 : Nat) (g : Nat → Nat), (∀ i, g i < 4294967296) ∧ o1 + n1 ≤ nv1 ∧ nv1 ≤ N ∧ seg g o1 n1 = Q ∧ ((n1 = 0 ∧ o1 = 0) ∨ (0 < n1 ∧ g o1 ≠ 0)) ∧ gO z true RJ24 TJ24 3 H b [.ref v1, .int (nI n1), .int (nI o1)] ∧ gI z true .int H v1 nv1 (dI g)
/-- the places are apart -/
def adF (s0 vq qo vd ro vr vq1 : Nat) : Prop := (s0 ≤ ro ∧ s0 ≤ vr ∧ s0 ≤ vd ∧ vr ≠ vd ∧ vr ≠ ro ∧ vd ≠ ro) ∧ ((vq1 = vq ∨ s0 ≤ vq1) ∧ vq1 ≠ vr ∧ vq1 ≠ vd ∧ vq1 ≠ ro ∧ vq1 ≠ qo)
theorem adF.vv {s0 vq qo vd ro vr vq1 : Nat} (h : adF s0 vq qo vd ro vr vq1) : vr ≠ vd := h.1.2.2.2.1
theorem kn_e1 {q d r E : Nat} (h : q * d + r = E) (h0 : 0 < q) : (q - 1) * d + (r + d) = E := by
  have := kn_dec (d := d) h0
  omega
theorem kn_c1 {r d : Nat} (hr : r < 4294967296) (hd : d < 4294967296) (c : ((((r + d) % 4294967296 : Nat)) : Int) < ((d : Nat) : Int)) : 4294967296 ≤ r + d := by omega
theorem kn_c2 {r d : Nat} (hr : r < 4294967296) (hd : d < 4294967296) (c : ¬ ((((r + d) % 4294967296 : Nat)) : Int) < ((d : Nat) : Int)) : (r + d) % 4294967296 = r + d := by omega
theorem kn_v {x y : Nat} (hx : x < 4294967296) (hy : y < 4294967296) : x * 4294967296 + y < 18446744073709551616 := by omega
theorem kn_u {x y : Nat} (hx : x < 4294967296) (hy : y < 4294967296) : x * y < 18446744073709551616 := by
  have := mul_bd (c := 0) (k := 0) hx hy (by decide) (by decide)
  omega
theorem kn_lo {r q : Nat} (hq : q < 4294967296) : (r * 4294967296 + q) % 4294967296 = q := by omega
theorem kn_hi {r q : Nat} (hq : q < 4294967296) : (r * 4294967296 + q) / 4294967296 = r := by omega
theorem kn_md {x y : Nat} : x - x / y * y = x % y := by
  have := Nat.div_add_mod x y
  rw [Nat.mul_comm]
  omega
theorem kn_rr {dd r : Nat} (h : 2147483648 ≤ dd) (hr : dd ≤ r) : 4294967296 ≤ r + dd := by omega
/-- the digits with a 0 ahead -/
def dz (d : Nat → Nat) : Nat → Nat := fun k => if k = 0 then 0 else d (k - 1)
theorem dz_lt {d : Nat → Nat} (hd : ∀ i, d i < 4294967296) (i : Nat) : dz d i < 4294967296 := by
  unfold dz
  split
  · decide
  · exact hd _
theorem dz_val {d : Nat → Nat} (hd : ∀ i, d i < 4294967296) {s : Nat} (hs : s < 32) (n : Nat) : seg (shl (dz d) s (n + 1)) 0 (n + 1) = seg d 0 n * 2 ^ s := by
  have q := shl_val (dz_lt hd) (s := s) hs (n + 1) (n + 1) 0 (by omega) (by omega)
  have h0 : dz d 0 = 0 := rfl
  rw [h0, Nat.zero_div, Nat.zero_mul, Nat.zero_add, seg_l (dz d), h0, Nat.zero_mul, Nat.zero_add] at q
  rw [q]
  congr 1
  unfold seg
  refine val_cg fun i _ => ?_
  show (if 0 + 1 + i = 0 then 0 else d (0 + 1 + i - 1)) = _
  rw [if_neg (by omega), show 0 + 1 + i - 1 = 0 + i by omega]

set_option maxHeartbeats 8000000 in
theorem m_divMag0 (l : Launch) (z : State) (H0 : Heap) (a : Nat) (b : Nat) (qo : Nat) (va vb vq n m0 na nb : Nat) (wa wb xa xb : Bool) (d ee : Nat → Nat) (hzw : zW z) (hm2 : 2 ≤ m0) (hmn : m0 ≤ n) (hn9 : n < 1000) (hna : n ≤ na) (hna9 : na < 100000) (hnb : m0 ≤ nb) (hnb9 : nb < 100000) (hab : a ≠ qo) (hbb : b ≠ qo) (haq : vq ≠ a) (hbq : vq ≠ b) (hqq : vq ≠ qo) (hvq : vq ≠ va) (hvq2 : vq ≠ vb) (hva : va ≠ qo) (hvb : vb ≠ qo) (hd0 : d 0 ≠ 0) (he0 : ee 0 ≠ 0) (hbE : gE z .int H0 vb nb) (hd : ∀ i, d i < 4294967296) (he : ∀ i, ee i < 4294967296) (hO : gO z wa RJ24 TJ24 3 H0 a [.ref va, .int (nI n), .int 0]) (hA : gI z xa .int H0 va na (dI d)) (hOb : gO z wb RJ24 TJ24 3 H0 b [.ref vb, .int (nI m0), .int 0]) (hB : gI z xb .int H0 vb nb (dI ee)) (hQo : gO z true RJ24 TJ24 3 H0 qo [.ref vq, .int 0, .int 0]) (hQa : gI z true .int H0 vq 1 (dI (fun _ => 0))) : Met l yJ24_divideMagnitude (ws_ yJ24_divideMagnitude cJ24_divideMagnitude 28 (some (.object "java/math/MutableBigInteger"))) { frames := 3, cells := 4, slots := (2 * n + 7), locals := 86 } (gPc z H0 [.ref a, .ref b, .ref qo, .int 0]) (gRn (fun q => q = qo ∨ q = vq ∨ H0.size ≤ q) H0 (fun H1 => ∃ v1, (v1 = vq ∨ H0.size ≤ v1) ∧ v1 ≠ qo ∧ mV z H1 qo v1 (n + 2) (seg d 0 n / seg ee 0 m0))) 4 (2 * n + 7) (fun q => q = qo ∨ q = vq ∨ H0.size ≤ q) := by
  refine g_start (by decide +kernel) (Nat.le_of_ble_eq_true rfl) ?_
  intro p e s m below meth c ls hx hb hr hlocks hml hown hname hts hwm hl
  have hown : s.vm.findClass "java/math/MutableBigInteger" = some m.cls := hown
  have hal : z.vm.Alike s.vm := hwm.alike
  have hCF : CallFix p m c cJ24_divideMagnitude 28 s [.ref a, .ref b, .ref qo, .int 0].toArray lw_all "java/math/MutableBigInteger" := ⟨hx, hb, hml, hown, hts⟩
  have hl : lv_has ls 28 [(0, .ref a), (1, .ref b), (2, .ref qo), (3, .int 0)] := hl
  have hS : va_S (fun q => q = qo ∨ q = vq ∨ H0.size ≤ q) H0 H0 [] := va_S.rf
  have lt_a := hO.lt
  have lt_va := hA.lt
  have lt_b := hOb.lt
  have lt_vb := hB.lt
  have lt_qo := hQo.lt
  have lt_vq := hQa.lt
  have cutT : ∀ (vq1 lim : Nat) (q1 : Nat → Nat), ((vq1 = vq ∨ H0.size ≤ vq1) ∧ vq1 ≠ qo) → (lim ≤ n + 1) → (∀ i, q1 i < 4294967296) → (seg q1 0 lim = seg d 0 n / seg ee 0 m0) → ∀ (H_1 : Heap) (locs : List Loc), va_S (fun q => q = qo ∨ q = vq ∨ H0.size ≤ q) H0 H_1 locs → gO z true RJ24 TJ24 3 H_1 qo [.ref vq1, .int (nI lim), .int 0] → gI z true .int H_1 vq1 lim (dI q1) → ∀ (ls : Array Slot), lv_has ls 28 [(0, .ref a), (1, .ref b), (2, .ref qo), (3, .int 0)] → W p l e { frames := 3, cells := 4, slots := (2 * n + 7), locals := 86 } s m [.ref a, .ref b, .ref qo, .int 0].toArray below meth c H_1 locs 4 (2 * n + 7) (MQ below (gRn (fun q => q = qo ∨ q = vq ∨ H0.size ≤ q) H0 (fun H1 => ∃ v1, (v1 = vq ∨ H0.size ≤ v1) ∧ v1 ≠ qo ∧ mV z H1 qo v1 (n + 2) (seg d 0 n / seg ee 0 m0))) [.ref a, .ref b, .ref qo, .int 0].toArray s 4 (2 * n + 7) (fun q => q = qo ∨ q = vq ∨ H0.size ≤ q)) (F0 m 1261 ls []) := by
    intro vq1 lim q1 hk hlim hq1b hQv H_1 locs hS hQo hQa ls hl
    refine lv_iload_n hx hb dJ24_divideMagnitude_1261 rfl (lv_at hl 3 rfl) ?_
    refine lv_if_eq (tgt := 1282) hx hb dJ24_divideMagnitude_1262 (by decide) (fun c_1262 => ?_) (fun c_1262 => absurd (by decide) c_1262)
    refine lv_aload_n hx hb dJ24_divideMagnitude_1282 rfl (lv_at hl 2 rfl) ?_
    have hsz := hS.1
    refine gcV0_v hCF hwm hl.1 (m_norm l z H_1 qo vq1 lim 0 lim true q1 (by omega) (by omega) (by omega) hq1b hQo hQa ) (lw_V q1040 q1041 q1042 q85 q1043) ydv_J24_normalize (hQo.recv hal) hS (fun q h => by have hsz := hS.1; (try dsimp only [gfr] at h ⊢) <;> omega) ⟨Nat.le_of_ble_eq_true rfl, Nat.le_of_ble_eq_true rfl⟩ ⟨by first | omega | (dsimp only; omega), by first | omega | (dsimp only; omega)⟩ (Nat.le_of_ble_eq_true rfl) dJ24_divideMagnitude_1283 (fun H_2 locs hp hex hS => ?_)
    have sz_H_2 : H_1.size ≤ H_2.size := hex.1
    have hQa := hQa.ex hex (by intro h; (try dsimp only [gfr] at h) <;> omega)
    clear hQo
    obtain ⟨n1, o1, hn1, ho1, hs1, hz1, hQo⟩ := hp
    have lt_qo := hQo.lt
    refine lv_iload_n hx hb dJ24_divideMagnitude_1286 rfl (lv_at hl 3 rfl) ?_
    refine lv_if_eq (tgt := 1295) hx hb dJ24_divideMagnitude_1287 (by decide) (fun c_1287 => ?_) (fun c_1287 => absurd (by decide) c_1287)
    refine lv_null hx hb dJ24_divideMagnitude_1295 ?_
    refine g_nret hx hb hr hlocks (Or.inl ⟨_, rfl⟩) hS (by first | omega | (dsimp only; omega)) (by first | omega | (dsimp only; omega)) ?_ dJ24_divideMagnitude_1296
    exact ⟨vq1, by omega, by omega, n1, o1, lim, q1, hq1b, by omega, by omega, hs1.trans hQv, hz1, hQo, hQa⟩
  have cutL : ∀ (vd ro vr vq1 nl sh j : Nat) (e1 g q1 : Nat → Nat), (∀ i, e1 i < 4294967296) → (2147483648 ≤ e1 0) → (seg e1 0 m0 = seg ee 0 m0 * 2 ^ sh) → (sh < 32) → (n ≤ nl ∧ nl ≤ n + 1) → (adF H0.size vq qo vd ro vr vq1) → (nl + 1 = (j + 1) + m0) → (j < (j + 1)) → (∀ i, g i < 4294967296) → (∀ i, q1 i < 4294967296) → (seg g j m0 < seg e1 0 m0) → (seg d 0 n * 2 ^ sh = seg q1 0 j * 4294967296 ^ ((j + 1) - j) * seg e1 0 m0 + seg g j (m0 + ((j + 1) - j))) → (∀ i, i < j → g i = 0) → (∀ i, j ≤ i → i < (j + 1) → q1 i = 0) → ∀ (H_4 : Heap) (locs : List Loc), va_S (fun q => q = qo ∨ q = vq ∨ H0.size ≤ q) H0 H_4 locs → gO z wa RJ24 TJ24 3 H_4 a [.ref va, .int (nI n), .int 0] → gI z true .int H_4 vd m0 (dI e1) → gO z true RJ24 TJ24 3 H_4 ro [.ref vr, .int (nI (nl + 1)), .int 0] → gI z true .int H_4 vr (nl + 1) (dI g) → gO z true RJ24 TJ24 3 H_4 qo [.ref vq1, .int (nI (j + 1)), .int 0] → gI z true .int H_4 vq1 (j + 1) (dI q1) → ∀ (ls : Array Slot), lv_has ls 28 [(0, .ref a), (1, .ref b), (2, .ref qo), (3, .int 0), (4, .int (nI sh)), (5, .int (nI m0)), (6, .ref vd), (7, .ref ro), (9, .int (nI (j + 1))), (10, .ref vq1), (11, .int (nI (e1 0))), (12, .long (lN (e1 0))), (14, .int (nI (e1 1)))] → W p l e { frames := 3, cells := 4, slots := (2 * n + 7), locals := 86 } s m [.ref a, .ref b, .ref qo, .int 0].toArray below meth c H_4 locs 4 (2 * n + 7) (MQ below (gRn (fun q => q = qo ∨ q = vq ∨ H0.size ≤ q) H0 (fun H1 => ∃ v1, (v1 = vq ∨ H0.size ≤ v1) ∧ v1 ≠ qo ∧ mV z H1 qo v1 (n + 2) (seg d 0 n / seg ee 0 m0))) [.ref a, .ref b, .ref qo, .int 0].toArray s 4 (2 * n + 7) (fun q => q = qo ∨ q = vq ∨ H0.size ≤ q)) (F0 m 828 ls []) := by
    intro vd ro vr vq1 nl sh j e1 g q1 he1 hD2 hDv hsh hnl hk hlim hj hg hq1b hi1 hi2 hz hq0 H_4 locs hS hO hV hRo hRa hQo hQa ls hl
    have hDs := kn_split (d := e1) (o := 0) hm2
    rw [Nat.zero_add, Nat.zero_add] at hDs
    have hXs := kn_split3 (d := g) (o := j) hm2
    have hd0 := seg_lt he1 2 (m0 - 2)
    have hx0 := seg_lt hg (j + 3) (m0 - 2)
    have hDpos : 0 < seg e1 0 m0 := seg_pos (by omega) (by omega)
    have hXB := kn_xb hg hi1
    have hnh := kn_nh he1 (by omega) hi1
    have he10 := he1 0
    have he11 := he1 1
    have hg0 := hg j
    have hg1 := hg (j + 1)
    have hg2 := hg (j + 2)
    have cutF : ∀ (qh : Nat), (qh < 4294967296) → (seg g j (m0 + 1) / seg e1 0 m0 ≤ qh) → (qh * (e1 0 * 4294967296 + e1 1) ≤ ((g j * 4294967296 + g (j + 1)) * 4294967296 + g (j + 2))) → ∀ (ls : Array Slot), lv_has ls 28 [(0, .ref a), (1, .ref b), (2, .ref qo), (3, .int 0), (4, .int (nI sh)), (5, .int (nI m0)), (6, .ref vd), (7, .ref ro), (9, .int (nI (j + 1))), (10, .ref vq1), (11, .int (nI (e1 0))), (12, .long (lN (e1 0))), (14, .int (nI (e1 1))), (15, .int (nI qh)), (18, .int (nI (g j))), (19, .int (iI (((g j) : Nat) + (-2147483648))))] → W p l e { frames := 3, cells := 4, slots := (2 * n + 7), locals := 86 } s m [.ref a, .ref b, .ref qo, .int 0].toArray below meth c H_4 locs 4 (2 * n + 7) (MQ below (gRn (fun q => q = qo ∨ q = vq ∨ H0.size ≤ q) H0 (fun H1 => ∃ v1, (v1 = vq ∨ H0.size ≤ v1) ∧ v1 ≠ qo ∧ mV z H1 qo v1 (n + 2) (seg d 0 n / seg ee 0 m0))) [.ref a, .ref b, .ref qo, .int 0].toArray s 4 (2 * n + 7) (fun q => q = qo ∨ q = vq ∨ H0.size ≤ q)) (F0 m 1133 ls []) := by
      intro qh hf1 hf4 hf8 ls hl
      have hfin := kn_fin hDs hXs hd0 hf8 (by omega) hDpos
      have hXl : seg g j (m0 + 1) = g j * 4294967296 ^ m0 + seg g (j + 1) m0 := seg_l g j m0
      have hDlt : seg e1 0 m0 < 4294967296 ^ m0 := seg_lt he1 0 m0
      have hgz : seg (dup g j (0 % 4294967296)) (j + 1) m0 = seg g (j + 1) m0 := seg_cg fun i h1 h2 => dup_n (by omega)
      have hgzb : ∀ ix, dup g j (0 % 4294967296) ix < 4294967296 := dup_lt hg (by decide)
      refine lv_aload hx hb dJ24_divideMagnitude_1133 (lv_at hl 7 rfl) ?_
      refine gw_get (C := RJ24) (T := TJ24) (N := 3) (v := .ref vr) hx hb hts in_J24 hown hal hRo 0 (by decide) (hts _ q979) (fun _ h9 => h9) rfl dJ24_divideMagnitude_1135 ?_
      refine lv_iload hx hb dJ24_divideMagnitude_1138 (lv_at hl 8 rfl) ?_
      refine lv_iconst (v := 1) hx hb dJ24_divideMagnitude_1140 (by decide) ?_
      refine lv_isub hx hb dJ24_divideMagnitude_1141 ?_
      refine g_topi (v := nI j) (ai_sub (a := (j + 1)) (b := 1) (rfl) (rfl) (by omega)) ?_
      refine lv_aload hx hb dJ24_divideMagnitude_1142 (lv_at hl 7 rfl) ?_
      refine gw_get (C := RJ24) (T := TJ24) (N := 3) (v := .int 0) hx hb hts in_J24 hown hal hRo 2 (by decide) (hts _ q981) (fun _ h9 => h9) rfl dJ24_divideMagnitude_1144 ?_
      refine lv_iadd hx hb dJ24_divideMagnitude_1147 ?_
      refine g_topi (v := nI j) (ai_add (a := j) (b := 0) (rfl) (rfl)) ?_
      refine lv_iconst (v := 0) hx hb dJ24_divideMagnitude_1148 (by decide) ?_
      refine gw_iast (f := (dI g)) hx hb hal hRa hS (by have q9 := hk; unfold adF at q9; have hsz := hS.1; (try dsimp only) <;> omega) j (rfl) (by omega) (by omega) dJ24_divideMagnitude_1149 (fun H_5 locs h_new hch hS => ?_)
      have hO := hO.ch hch (by have q9 := hk; unfold adF at q9; omega)
      have hV := hV.ch hch (by have q9 := hk; unfold adF at q9; omega)
      have hRo := hRo.ch hch (by have q9 := hk; unfold adF at q9; omega)
      have hQo := hQo.ch hch (by have q9 := hk; unfold adF at q9; omega)
      have hQa := hQa.ch hch (by have q9 := hk; unfold adF at q9; omega)
      have sz_H_5 := hch.1
      clear hch
      have hRa : gI z true .int H_5 vr (nl + 1) (upd (dI g) j 0) := h_new
      replace hRa : gI z true .int H_5 vr (nl + 1) (dI (dup g j (0 % 4294967296))) := by
        have q := hRa
        rw [show (0 : Int32) = nI 0 from rfl] at q
        rw [dI_put] at q
        exact q
      have bd_6 : ∀ ix, (dup g j (0 % 4294967296)) ix < 4294967296 := dup_lt hg (Nat.mod_lt _ (by decide))
      refine lv_iload_n hx hb dJ24_divideMagnitude_1150 rfl (lv_at hl 3 rfl) ?_
      refine lv_if_eq (tgt := 1184) hx hb dJ24_divideMagnitude_1151 (by decide) (fun c_1151 => ?_) (fun c_1151 => absurd (by decide) c_1151)
      refine lv_aload_n hx hb dJ24_divideMagnitude_1184 rfl (lv_at hl 0 rfl) ?_
      refine lv_aload hx hb dJ24_divideMagnitude_1185 (lv_at hl 7 rfl) ?_
      refine gw_get (C := RJ24) (T := TJ24) (N := 3) (v := .ref vr) hx hb hts in_J24 hown hal hRo 0 (by decide) (hts _ q979) (fun _ h9 => h9) rfl dJ24_divideMagnitude_1187 ?_
      refine lv_aload hx hb dJ24_divideMagnitude_1190 (lv_at hl 6 rfl) ?_
      refine lv_iload hx hb dJ24_divideMagnitude_1192 (lv_at hl 13 rfl) ?_
      refine lv_iload hx hb dJ24_divideMagnitude_1194 (lv_at hl 5 rfl) ?_
      refine lv_iload hx hb dJ24_divideMagnitude_1196 (lv_at hl 8 rfl) ?_
      refine lv_iconst (v := 1) hx hb dJ24_divideMagnitude_1198 (by decide) ?_
      refine lv_isub hx hb dJ24_divideMagnitude_1199 ?_
      refine g_topi (v := nI j) (ai_sub (a := (j + 1)) (b := 1) (rfl) (rfl) (by omega)) ?_
      refine lv_aload hx hb dJ24_divideMagnitude_1200 (lv_at hl 7 rfl) ?_
      refine gw_get (C := RJ24) (T := TJ24) (N := 3) (v := .int 0) hx hb hts in_J24 hown hal hRo 2 (by decide) (hts _ q981) (fun _ h9 => h9) rfl dJ24_divideMagnitude_1202 ?_
      refine lv_iadd hx hb dJ24_divideMagnitude_1205 ?_
      refine g_topi (v := nI j) (ai_add (a := j) (b := 0) (rfl) (rfl)) ?_
      refine gcV5_iP hCF hwm hl.1 (m_mulsubB l z H_5 a vr vd (nl + 1) j m0 qh m0 true wa (dup g j (0 % 4294967296)) e1 va (nI n) 0 hk.vv (by omega) (by omega) (by omega) (Nat.le_refl _) hf1 hgzb he1 hRa hV hO ) (lw_V q1100 q1102 qs10 q85 q1103) ydv_J24_mulsubBorrow (hO.recv hal) ⟨Nat.le_of_ble_eq_true rfl, Nat.le_of_ble_eq_true rfl⟩ ⟨by first | omega | (dsimp only; omega), by first | omega | (dsimp only; omega)⟩ (Nat.le_of_ble_eq_true rfl) dJ24_divideMagnitude_1206 (fun rk hp => ?_)
      obtain ⟨kk, Xw, hkk0, hkk, hXw, hms⟩ := hp
      subst hkk0
      rw [hgz] at hms
      have hks := kn_ms hXl hms hXw hDlt hDpos hf4 hfin
      refine lv_istore hx hb dJ24_divideMagnitude_1209 hl (by decide) rfl (fun ls hl => ?_)
      have hl : lv_has ls 28 [(21, .int (nI kk)), (0, .ref a), (1, .ref b), (2, .ref qo), (3, .int 0), (4, .int (nI sh)), (5, .int (nI m0)), (6, .ref vd), (7, .ref ro), (9, .int (nI (j + 1))), (10, .ref vq1), (11, .int (nI (e1 0))), (12, .long (lN (e1 0))), (14, .int (nI (e1 1))), (15, .int (nI qh)), (18, .int (nI (g j))), (19, .int (iI (((g j) : Nat) + (-2147483648))))] := hl
      refine lv_iload hx hb dJ24_divideMagnitude_1211 (lv_at hl 0 rfl) ?_
      refine lv_ldc (v := -2147483648) hx hb hown (hts _ q1012) dJ24_divideMagnitude_1213 ?_
      refine lv_iadd hx hb dJ24_divideMagnitude_1215 ?_
      refine g_topi (v := iI ((kk : Nat) + (-2147483648))) (ai_addI (a := (kk : Nat)) (b := (-2147483648)) (nI_iI _) (by decide)) ?_
      refine lv_iload hx hb dJ24_divideMagnitude_1216 (lv_at hl 16 rfl) ?_
      refine lv_icmp_le (tgt := 1252) hx hb dJ24_divideMagnitude_1218 (by decide) (fun c_1218 => ?_) (fun c_1218 => ?_)
      · skip
        have c_1218 := (ai_leI (a := ((kk : Nat) + (-2147483648))) (b := (((g j) : Nat) + (-2147483648))) (rfl) (rfl) (by omega) (by omega) (by omega) (by omega)).mp c_1218
        have hks1 := hks.1 (by omega)
        have hqf : qh = seg g j (m0 + 1) / seg e1 0 m0 := hks1.1
        refine lv_aload hx hb dJ24_divideMagnitude_1252 (lv_at hl 10 rfl) ?_
        refine lv_iload hx hb dJ24_divideMagnitude_1254 (lv_at hl 9 rfl) ?_
        refine lv_iconst (v := 1) hx hb dJ24_divideMagnitude_1256 (by decide) ?_
        refine lv_isub hx hb dJ24_divideMagnitude_1257 ?_
        refine g_topi (v := nI j) (ai_sub (a := (j + 1)) (b := 1) (rfl) (rfl) (by omega)) ?_
        refine lv_iload hx hb dJ24_divideMagnitude_1258 (lv_at hl 14 rfl) ?_
        refine gw_iast (f := (dI q1)) hx hb hal hQa hS (by have q9 := hk; unfold adF at q9; have hsz := hS.1; (try dsimp only) <;> omega) j (rfl) (by omega) (by omega) dJ24_divideMagnitude_1260 (fun H_7 locs h_new hch hS => ?_)
        have hO := hO.ch hch (by have q9 := hk; unfold adF at q9; omega)
        have hV := hV.ch hch (by have q9 := hk; unfold adF at q9; omega)
        have hRo := hRo.ch hch (by have q9 := hk; unfold adF at q9; omega)
        have hRa := hRa.ch hch (by have q9 := hk; unfold adF at q9; omega)
        have hQo := hQo.ch hch (by have q9 := hk; unfold adF at q9; omega)
        have sz_H_7 := hch.1
        clear hch
        have hQa : gI z true .int H_7 vq1 (j + 1) (upd (dI q1) j (nI qh)) := h_new
        replace hQa : gI z true .int H_7 vq1 (j + 1) (dI (dup q1 j (qh % 4294967296))) := by
          have q := hQa
          rw [dI_put] at q
          exact q
        have bd_8 : ∀ ix, (dup q1 j (qh % 4294967296)) ix < 4294967296 := dup_lt hq1b (Nat.mod_lt _ (by decide))
        have hla := kn_last (q1 := (dup q1 j (qh % 4294967296))) hi2 (by rw [dup_s, Nat.mod_eq_of_lt (by omega)]; exact hqf) (fun i h => dup_n (by omega))
        have hun := kn_unsh (N := seg d 0 n) (D := seg ee 0 m0) (S := 2 ^ sh) (by rw [← hDv]; exact hla) (by rw [← hDv]; exact Nat.mod_lt _ hDpos) (Nat.two_pow_pos _)
        have hQf := hun.1
        exact cutT vq1 (j + 1) (dup q1 j (qh % 4294967296)) (by have q9 := hk; unfold adF at q9; omega) (by omega) bd_8 hQf H_7 _ hS hQo hQa ls (lv_sub hl [1, 2, 3, 4] rfl)
      · skip
        have c_1218 := mt (ai_leI (a := ((kk : Nat) + (-2147483648))) (b := (((g j) : Nat) + (-2147483648))) (rfl) (rfl) (by omega) (by omega) (by omega) (by omega)).mpr c_1218
        have hks2 := hks.2 (by omega)
        have hqf : qh - 1 = seg g j (m0 + 1) / seg e1 0 m0 := by rw [hks2.1, Nat.add_sub_cancel]
        refine lv_iload_n hx hb dJ24_divideMagnitude_1221 rfl (lv_at hl 4 rfl) ?_
        refine lv_if_eq (tgt := 1249) hx hb dJ24_divideMagnitude_1222 (by decide) (fun c_1222 => ?_) (fun c_1222 => absurd (by decide) c_1222)
        refine lv_iinc (k := 14) (v := (nI (qh - 1))) hx hb dJ24_divideMagnitude_1249 hl rfl (ai_sbn (a := qh) (b := 1) (rfl) (show Int32.ofInt (-1) = -nI 1 by decide) (by omega)) (by decide) rfl (fun ls hl => ?_)
        have hl : lv_has ls 28 [(15, .int (nI (qh - 1))), (21, .int (nI kk)), (0, .ref a), (1, .ref b), (2, .ref qo), (3, .int 0), (4, .int (nI sh)), (5, .int (nI m0)), (6, .ref vd), (7, .ref ro), (9, .int (nI (j + 1))), (10, .ref vq1), (11, .int (nI (e1 0))), (12, .long (lN (e1 0))), (14, .int (nI (e1 1))), (18, .int (nI (g j))), (19, .int (iI (((g j) : Nat) + (-2147483648))))] := hl
        refine lv_aload hx hb dJ24_divideMagnitude_1252 (lv_at hl 11 rfl) ?_
        refine lv_iload hx hb dJ24_divideMagnitude_1254 (lv_at hl 10 rfl) ?_
        refine lv_iconst (v := 1) hx hb dJ24_divideMagnitude_1256 (by decide) ?_
        refine lv_isub hx hb dJ24_divideMagnitude_1257 ?_
        refine g_topi (v := nI j) (ai_sub (a := (j + 1)) (b := 1) (rfl) (rfl) (by omega)) ?_
        refine lv_iload hx hb dJ24_divideMagnitude_1258 (lv_at hl 0 rfl) ?_
        refine gw_iast (f := (dI q1)) hx hb hal hQa hS (by have q9 := hk; unfold adF at q9; have hsz := hS.1; (try dsimp only) <;> omega) j (rfl) (by omega) (by omega) dJ24_divideMagnitude_1260 (fun H_9 locs h_new hch hS => ?_)
        have hO := hO.ch hch (by have q9 := hk; unfold adF at q9; omega)
        have hV := hV.ch hch (by have q9 := hk; unfold adF at q9; omega)
        have hRo := hRo.ch hch (by have q9 := hk; unfold adF at q9; omega)
        have hRa := hRa.ch hch (by have q9 := hk; unfold adF at q9; omega)
        have hQo := hQo.ch hch (by have q9 := hk; unfold adF at q9; omega)
        have sz_H_9 := hch.1
        clear hch
        have hQa : gI z true .int H_9 vq1 (j + 1) (upd (dI q1) j (nI (qh - 1))) := h_new
        replace hQa : gI z true .int H_9 vq1 (j + 1) (dI (dup q1 j ((qh - 1) % 4294967296))) := by
          have q := hQa
          rw [dI_put] at q
          exact q
        have bd_10 : ∀ ix, (dup q1 j ((qh - 1) % 4294967296)) ix < 4294967296 := dup_lt hq1b (Nat.mod_lt _ (by decide))
        have hla := kn_last (q1 := (dup q1 j ((qh - 1) % 4294967296))) hi2 (by rw [dup_s, Nat.mod_eq_of_lt (by omega)]; exact hqf) (fun i h => dup_n (by omega))
        have hun := kn_unsh (N := seg d 0 n) (D := seg ee 0 m0) (S := 2 ^ sh) (by rw [← hDv]; exact hla) (by rw [← hDv]; exact Nat.mod_lt _ hDpos) (Nat.two_pow_pos _)
        have hQf := hun.1
        exact cutT vq1 (j + 1) (dup q1 j ((qh - 1) % 4294967296)) (by have q9 := hk; unfold adF at q9; omega) (by omega) bd_10 hQf H_9 _ hS hQo hQa ls (lv_sub hl [2, 3, 4, 5] rfl)
    have cutE : ∀ (qh qr sk : Nat), (qh < 4294967296) → (qr < 4294967296) → (sk ≤ 1) → (seg g j (m0 + 1) / seg e1 0 m0 ≤ qh) → (sk = 0 → qh * e1 0 + qr = (g j * 4294967296 + g (j + 1))) → (sk = 1 → qh * (e1 0 * 4294967296 + e1 1) ≤ ((g j * 4294967296 + g (j + 1)) * 4294967296 + g (j + 2))) → (qh = 0 → (g j * 4294967296 + g (j + 1)) < e1 0) → ∀ (ls : Array Slot), lv_has ls 28 [(0, .ref a), (1, .ref b), (2, .ref qo), (3, .int 0), (4, .int (nI sh)), (5, .int (nI m0)), (6, .ref vd), (7, .ref ro), (9, .int (nI (j + 1))), (10, .ref vq1), (11, .int (nI (e1 0))), (12, .long (lN (e1 0))), (14, .int (nI (e1 1))), (15, .int (nI qh)), (16, .int (nI qr)), (17, .int (nI sk)), (18, .int (nI (g j))), (19, .int (iI (((g j) : Nat) + (-2147483648))))] → W p l e { frames := 3, cells := 4, slots := (2 * n + 7), locals := 86 } s m [.ref a, .ref b, .ref qo, .int 0].toArray below meth c H_4 locs 4 (2 * n + 7) (MQ below (gRn (fun q => q = qo ∨ q = vq ∨ H0.size ≤ q) H0 (fun H1 => ∃ v1, (v1 = vq ∨ H0.size ≤ v1) ∧ v1 ≠ qo ∧ mV z H1 qo v1 (n + 2) (seg d 0 n / seg ee 0 m0))) [.ref a, .ref b, .ref qo, .int 0].toArray s 4 (2 * n + 7) (fun q => q = qo ∨ q = vq ∨ H0.size ≤ q)) (F0 m 987 ls []) := by
      intro qh qr sk hc1 hc2 hc3 hc4 hc5 hc6 hc7 ls hl
      refine lv_iload hx hb dJ24_divideMagnitude_987 (lv_at hl 13 rfl) ?_
      refine lv_if_eq (tgt := 1261) hx hb dJ24_divideMagnitude_989 (by decide) (fun c_989 => ?_) (fun c_989 => ?_)
      · skip
        have c_989 := (ai_eqU (a := qh) (b := 0) (rfl) (rfl) (hc1) (by omega)).mp c_989
        have hzr := kn_zero hg he1 hm2 (hc7 c_989)
        have hXz : seg g j (m0 + 1) / seg e1 0 m0 = 0 := Nat.div_eq_of_lt hzr.2.1
        have hla := kn_last (q1 := q1) hi2 (by rw [hXz]; exact hq0 j (Nat.le_refl _) (by omega)) (fun i _ => rfl)
        have hun := kn_unsh (N := seg d 0 n) (D := seg ee 0 m0) (S := 2 ^ sh) (by rw [← hDv]; exact hla) (by rw [← hDv]; exact Nat.mod_lt _ hDpos) (Nat.two_pow_pos _)
        have hQf := hun.1
        exact cutT vq1 (j + 1) q1 (by have q9 := hk; unfold adF at q9; omega) (by omega) hq1b hQf H_4 _ hS hQo hQa ls (lv_sub hl [0, 1, 2, 3] rfl)
      · skip
        have c_989 := mt (ai_eqU (a := qh) (b := 0) (rfl) (rfl) (hc1) (by omega)).mpr c_989
        refine lv_iload hx hb dJ24_divideMagnitude_992 (lv_at hl 15 rfl) ?_
        refine lv_if_ne (tgt := 1133) hx hb dJ24_divideMagnitude_994 (by decide) (fun c_994 => ?_) (fun c_994 => ?_)
        · skip
          have c_994 := mt (ai_eq (a := sk) (b := 0) (rfl) (rfl) (by omega) (by omega)).mpr c_994
          have hf1 := hc1
          have hf4 := hc4
          have hf8 := hc6 (by omega)
          exact cutF qh hf1 hf4 hf8 ls (lv_sub hl [0, 1, 2, 3, 4, 5, 6, 7, 8, 9, 10, 11, 12, 13, 16, 17] rfl)
        · skip
          have c_994 := (ai_eq (a := sk) (b := 0) (rfl) (rfl) (by omega) (by omega)).mp c_994
          have hQE : qh * e1 0 + qr = (g j * 4294967296 + g (j + 1)) := hc5 (by omega)
          refine lv_aload hx hb dJ24_divideMagnitude_997 (lv_at hl 7 rfl) ?_
          refine gw_get (C := RJ24) (T := TJ24) (N := 3) (v := .ref vr) hx hb hts in_J24 hown hal hRo 0 (by decide) (hts _ q979) (fun _ h9 => h9) rfl dJ24_divideMagnitude_999 ?_
          refine lv_iload hx hb dJ24_divideMagnitude_1002 (lv_at hl 8 rfl) ?_
          refine lv_iconst (v := 1) hx hb dJ24_divideMagnitude_1004 (by decide) ?_
          refine lv_iadd hx hb dJ24_divideMagnitude_1005 ?_
          refine g_topi (v := nI (j + 2)) (ai_add (a := (j + 1)) (b := 1) (rfl) (rfl)) ?_
          refine lv_aload hx hb dJ24_divideMagnitude_1006 (lv_at hl 7 rfl) ?_
          refine gw_get (C := RJ24) (T := TJ24) (N := 3) (v := .int 0) hx hb hts in_J24 hown hal hRo 2 (by decide) (hts _ q981) (fun _ h9 => h9) rfl dJ24_divideMagnitude_1008 ?_
          refine lv_iadd hx hb dJ24_divideMagnitude_1011 ?_
          refine g_topi (v := nI (j + 2)) (ai_add (a := (j + 2)) (b := 0) (rfl) (rfl)) ?_
          refine gw_iald hx hb hal hRa (j + 2) (rfl) (by omega) (by omega) dJ24_divideMagnitude_1012 ?_
          refine g_topi (v := (nI (g (j + 2)))) rfl ?_
          refine lv_i2l hx hb dJ24_divideMagnitude_1013 rfl ?_
          refine lv_ldc2 (v := 4294967295) hx hb hown (hts _ q1035) dJ24_divideMagnitude_1014 ?_
          refine lv_land hx hb dJ24_divideMagnitude_1017 ?_
          refine g_topl (v := lN (g (j + 2))) (mk32 (a := (g (j + 2))) (rfl) (hg _)) ?_
          refine lv_lstore hx hb dJ24_divideMagnitude_1018 hl (by decide) rfl (fun ls hl => ?_)
          have hl : lv_has ls 28 [(21, .long (lN (g (j + 2)))), (0, .ref a), (1, .ref b), (2, .ref qo), (3, .int 0), (4, .int (nI sh)), (5, .int (nI m0)), (6, .ref vd), (7, .ref ro), (9, .int (nI (j + 1))), (10, .ref vq1), (11, .int (nI (e1 0))), (12, .long (lN (e1 0))), (14, .int (nI (e1 1))), (15, .int (nI qh)), (16, .int (nI qr)), (17, .int (nI sk)), (18, .int (nI (g j))), (19, .int (iI (((g j) : Nat) + (-2147483648))))] := hl
          refine lv_iload hx hb dJ24_divideMagnitude_1020 (lv_at hl 15 rfl) ?_
          refine lv_i2l hx hb dJ24_divideMagnitude_1022 rfl ?_
          refine lv_ldc2 (v := 4294967295) hx hb hown (hts _ q1035) dJ24_divideMagnitude_1023 ?_
          refine lv_land hx hb dJ24_divideMagnitude_1026 ?_
          refine g_topl (v := lN qr) (mk32 (a := qr) (rfl) (by omega)) ?_
          refine lv_bipush (v := 32) hx hb dJ24_divideMagnitude_1027 (by decide) ?_
          refine lv_lshl hx hb dJ24_divideMagnitude_1029 rfl ?_
          refine g_topl (v := lN (qr * 4294967296)) (lN_shl32 (a := qr)) ?_
          refine lv_lload hx hb dJ24_divideMagnitude_1030 (lv_at hl 0 rfl) ?_
          refine lv_lor hx hb dJ24_divideMagnitude_1032 ?_
          refine g_topl (v := (lN (qr * 4294967296 + g (j + 2)))) (lN_or hg2 hc2) ?_
          refine lv_lstore hx hb dJ24_divideMagnitude_1033 hl (by decide) rfl (fun ls hl => ?_)
          have hl : lv_has ls 28 [(23, .long (lN (qr * 4294967296 + g (j + 2)))), (21, .long (lN (g (j + 2)))), (0, .ref a), (1, .ref b), (2, .ref qo), (3, .int 0), (4, .int (nI sh)), (5, .int (nI m0)), (6, .ref vd), (7, .ref ro), (9, .int (nI (j + 1))), (10, .ref vq1), (11, .int (nI (e1 0))), (12, .long (lN (e1 0))), (14, .int (nI (e1 1))), (15, .int (nI qh)), (16, .int (nI qr)), (17, .int (nI sk)), (18, .int (nI (g j))), (19, .int (iI (((g j) : Nat) + (-2147483648))))] := hl
          refine lv_iload hx hb dJ24_divideMagnitude_1035 (lv_at hl 14 rfl) ?_
          refine lv_i2l hx hb dJ24_divideMagnitude_1037 rfl ?_
          refine lv_ldc2 (v := 4294967295) hx hb hown (hts _ q1035) dJ24_divideMagnitude_1038 ?_
          refine lv_land hx hb dJ24_divideMagnitude_1041 ?_
          refine g_topl (v := lN (e1 1)) (mk32 (a := (e1 1)) (rfl) (he1 _)) ?_
          refine lv_iload hx hb dJ24_divideMagnitude_1042 (lv_at hl 15 rfl) ?_
          refine lv_i2l hx hb dJ24_divideMagnitude_1044 rfl ?_
          refine lv_ldc2 (v := 4294967295) hx hb hown (hts _ q1035) dJ24_divideMagnitude_1045 ?_
          refine lv_land hx hb dJ24_divideMagnitude_1048 ?_
          refine g_topl (v := lN qh) (mk32 (a := qh) (rfl) (hc1)) ?_
          refine lv_lmul hx hb dJ24_divideMagnitude_1049 ?_
          refine g_topl (v := lN ((e1 1) * qh)) (ai_mulL (a := (e1 1)) (b := qh) (rfl) (rfl)) ?_
          refine lv_lstore hx hb dJ24_divideMagnitude_1050 hl (by decide) rfl (fun ls hl => ?_)
          have hl : lv_has ls 28 [(25, .long (lN ((e1 1) * qh))), (23, .long (lN (qr * 4294967296 + g (j + 2)))), (21, .long (lN (g (j + 2)))), (0, .ref a), (1, .ref b), (2, .ref qo), (3, .int 0), (4, .int (nI sh)), (5, .int (nI m0)), (6, .ref vd), (7, .ref ro), (9, .int (nI (j + 1))), (10, .ref vq1), (11, .int (nI (e1 0))), (12, .long (lN (e1 0))), (14, .int (nI (e1 1))), (15, .int (nI qh)), (16, .int (nI qr)), (17, .int (nI sk)), (18, .int (nI (g j))), (19, .int (iI (((g j) : Nat) + (-2147483648))))] := hl
          refine lv_aload_n hx hb dJ24_divideMagnitude_1052 rfl (lv_at hl 3 rfl) ?_
          refine lv_lload hx hb dJ24_divideMagnitude_1053 (lv_at hl 0 rfl) ?_
          refine lv_lload hx hb dJ24_divideMagnitude_1055 (lv_at hl 1 rfl) ?_
          refine gcV2_iP hCF hwm hl.1 (m_uCmp l z H_4 a (e1 1 * qh) (qr * 4294967296 + g (j + 2)) (kn_u he11 hc1) (kn_v hc2 hg2) ) (lw_V q1087 q1089 qs7 q85 q1090) ydv_J24_unsignedLongCompare (hO.recv hal) ⟨Nat.le_of_ble_eq_true rfl, Nat.le_of_ble_eq_true rfl⟩ ⟨by first | omega | (dsimp only; omega), by first | omega | (dsimp only; omega)⟩ (Nat.le_of_ble_eq_true rfl) dJ24_divideMagnitude_1057 (fun r_11 hp => ?_)
          subst hp
          refine lv_if_eq (tgt := 1133) hx hb dJ24_divideMagnitude_1060 (by decide) (fun c_1060 => ?_) (fun c_1060 => ?_)
          · skip
            have c_1060 := gb_0.mp c_1060
            have hle1 := of_decide_eq_false c_1060
            have hf1 := hc1
            have hf4 := hc4
            have hf8 := kn_ok (nl := g (j + 2)) hQE (Nat.le_of_not_lt hle1)
            exact cutF qh hf1 hf4 hf8 ls (lv_sub hl [3, 4, 5, 6, 7, 8, 9, 10, 11, 12, 13, 14, 15, 16, 19, 20] rfl)
          · skip
            have c_1060 := gb_n0 c_1060
            have hgt1 := of_decide_eq_true (by simpa using c_1060)
            have hf4 := kn_over hDs hXs hx0 (kn_gt (nl := g (j + 2)) hQE hgt1) hDpos
            have hqp : 0 < qh := Nat.pos_of_ne_zero fun q => absurd hgt1 (by rw [q, Nat.mul_zero]; exact Nat.not_lt_zero _)
            have hqm : e1 1 * (qh - 1) = e1 1 * qh - e1 1 := by rw [Nat.mul_sub, Nat.mul_one]
            have hqs := Nat.le_mul_of_pos_right (e1 1) hqp
            have hQE2 := kn_e1 hQE hqp
            have hf1 : qh - 1 < 4294967296 := Nat.lt_of_le_of_lt (Nat.sub_le _ _) hc1
            refine lv_iinc (k := 16) (v := (nI (qh - 1))) hx hb dJ24_divideMagnitude_1063 hl rfl (ai_sbn (a := qh) (b := 1) rfl (show Int32.ofInt (-1) = -nI 1 by decide) hqp) (by decide) rfl (fun ls hl => ?_)
            have hl : lv_has ls 28 [(15, .int (nI (qh - 1))), (25, .long (lN ((e1 1) * qh))), (23, .long (lN (qr * 4294967296 + g (j + 2)))), (21, .long (lN (g (j + 2)))), (0, .ref a), (1, .ref b), (2, .ref qo), (3, .int 0), (4, .int (nI sh)), (5, .int (nI m0)), (6, .ref vd), (7, .ref ro), (9, .int (nI (j + 1))), (10, .ref vq1), (11, .int (nI (e1 0))), (12, .long (lN (e1 0))), (14, .int (nI (e1 1))), (16, .int (nI qr)), (17, .int (nI sk)), (18, .int (nI (g j))), (19, .int (iI (((g j) : Nat) + (-2147483648))))] := hl
            refine lv_iload hx hb dJ24_divideMagnitude_1066 (lv_at hl 17 rfl) ?_
            refine lv_i2l hx hb dJ24_divideMagnitude_1068 rfl ?_
            refine lv_ldc2 (v := 4294967295) hx hb hown (hts _ q1035) dJ24_divideMagnitude_1069 ?_
            refine lv_land hx hb dJ24_divideMagnitude_1072 ?_
            refine g_topl (v := lN qr) (mk32 (a := qr) (rfl) (by omega)) ?_
            refine lv_lload hx hb dJ24_divideMagnitude_1073 (lv_at hl 15 rfl) ?_
            refine lv_ladd hx hb dJ24_divideMagnitude_1075 ?_
            refine g_topl (v := lN (qr + (e1 0))) (ai_addL (a := qr) (b := (e1 0)) (rfl) (rfl)) ?_
            refine lv_l2i hx hb dJ24_divideMagnitude_1076 rfl ?_
            refine g_topi (v := (nI ((qr + e1 0) % 4294967296))) ((ai_l2i (a := qr + e1 0) rfl).trans (nI_mod _).symm) ?_
            refine lv_istore hx hb dJ24_divideMagnitude_1077 hl (by decide) rfl (fun ls hl => ?_)
            have hl : lv_has ls 28 [(16, .int (nI ((qr + e1 0) % 4294967296))), (15, .int (nI (qh - 1))), (25, .long (lN ((e1 1) * qh))), (23, .long (lN (qr * 4294967296 + g (j + 2)))), (21, .long (lN (g (j + 2)))), (0, .ref a), (1, .ref b), (2, .ref qo), (3, .int 0), (4, .int (nI sh)), (5, .int (nI m0)), (6, .ref vd), (7, .ref ro), (9, .int (nI (j + 1))), (10, .ref vq1), (11, .int (nI (e1 0))), (12, .long (lN (e1 0))), (14, .int (nI (e1 1))), (17, .int (nI sk)), (18, .int (nI (g j))), (19, .int (iI (((g j) : Nat) + (-2147483648))))] := hl
            refine lv_iload hx hb dJ24_divideMagnitude_1079 (lv_at hl 0 rfl) ?_
            refine lv_i2l hx hb dJ24_divideMagnitude_1081 rfl ?_
            refine lv_ldc2 (v := 4294967295) hx hb hown (hts _ q1035) dJ24_divideMagnitude_1082 ?_
            refine lv_land hx hb dJ24_divideMagnitude_1085 ?_
            refine g_topl (v := lN ((qr + e1 0) % 4294967296)) (mk32 (a := ((qr + e1 0) % 4294967296)) (rfl) (Nat.mod_lt _ (by decide))) ?_
            refine lv_lload hx hb dJ24_divideMagnitude_1086 (lv_at hl 16 rfl) ?_
            refine W.lcmp hx hb dJ24_divideMagnitude_1088 ?_
            refine lv_if_lt (tgt := 1133) hx hb dJ24_divideMagnitude_1089 (by decide) (fun c_1089 => ?_) (fun c_1089 => ?_)
            · skip
              have c_1089 := (ai_clt (a := (((qr + e1 0) % 4294967296) : Nat)) (b := ((e1 0) : Nat)) (lN_lI _) (lN_lI _) (by omega) (by omega) (by omega) (by omega)).mp c_1089
              have hf8 := kn_ov (nl := g (j + 2)) hQE2 (kn_c1 hc2 he10 c_1089) hf1 he11
              exact cutF (qh - 1) hf1 hf4 hf8 ls (lv_sub hl [5, 6, 7, 8, 9, 10, 11, 12, 13, 14, 15, 16, 17, 1, 19, 20] rfl)
            · skip
              have c_1089 := mt (ai_clt (a := (((qr + e1 0) % 4294967296) : Nat)) (b := ((e1 0) : Nat)) (lN_lI _) (lN_lI _) (by omega) (by omega) (by omega) (by omega)).mpr c_1089
              have hrm := kn_c2 hc2 he10 c_1089
              refine lv_lload hx hb dJ24_divideMagnitude_1092 (lv_at hl 2 rfl) ?_
              refine lv_iload hx hb dJ24_divideMagnitude_1094 (lv_at hl 17 rfl) ?_
              refine lv_i2l hx hb dJ24_divideMagnitude_1096 rfl ?_
              refine lv_ldc2 (v := 4294967295) hx hb hown (hts _ q1035) dJ24_divideMagnitude_1097 ?_
              refine lv_land hx hb dJ24_divideMagnitude_1100 ?_
              refine g_topl (v := lN (e1 1)) (mk32 (a := (e1 1)) (rfl) (he1 _)) ?_
              refine lv_lsub hx hb dJ24_divideMagnitude_1101 ?_
              refine g_topl (v := lN (((e1 1) * qh) - (e1 1))) (ai_subL (a := ((e1 1) * qh)) (b := (e1 1)) (rfl) (rfl) (hqs)) ?_
              refine lv_lstore hx hb dJ24_divideMagnitude_1102 hl (by decide) rfl (fun ls hl => ?_)
              have hl : lv_has ls 28 [(25, .long (lN (((e1 1) * qh) - (e1 1)))), (16, .int (nI ((qr + e1 0) % 4294967296))), (15, .int (nI (qh - 1))), (23, .long (lN (qr * 4294967296 + g (j + 2)))), (21, .long (lN (g (j + 2)))), (0, .ref a), (1, .ref b), (2, .ref qo), (3, .int 0), (4, .int (nI sh)), (5, .int (nI m0)), (6, .ref vd), (7, .ref ro), (9, .int (nI (j + 1))), (10, .ref vq1), (11, .int (nI (e1 0))), (12, .long (lN (e1 0))), (14, .int (nI (e1 1))), (17, .int (nI sk)), (18, .int (nI (g j))), (19, .int (iI (((g j) : Nat) + (-2147483648))))] := hl
              refine lv_iload hx hb dJ24_divideMagnitude_1104 (lv_at hl 1 rfl) ?_
              refine lv_i2l hx hb dJ24_divideMagnitude_1106 rfl ?_
              refine lv_ldc2 (v := 4294967295) hx hb hown (hts _ q1035) dJ24_divideMagnitude_1107 ?_
              refine lv_land hx hb dJ24_divideMagnitude_1110 ?_
              refine g_topl (v := lN ((qr + e1 0) % 4294967296)) (mk32 (a := ((qr + e1 0) % 4294967296)) (rfl) (Nat.mod_lt _ (by decide))) ?_
              refine lv_bipush (v := 32) hx hb dJ24_divideMagnitude_1111 (by decide) ?_
              refine lv_lshl hx hb dJ24_divideMagnitude_1113 rfl ?_
              refine g_topl (v := lN (((qr + e1 0) % 4294967296) * 4294967296)) (lN_shl32 (a := ((qr + e1 0) % 4294967296))) ?_
              refine lv_lload hx hb dJ24_divideMagnitude_1114 (lv_at hl 4 rfl) ?_
              refine lv_lor hx hb dJ24_divideMagnitude_1116 ?_
              refine g_topl (v := (lN ((qr + e1 0) % 4294967296 * 4294967296 + g (j + 2)))) (lN_or hg2 (Nat.mod_lt _ (by decide))) ?_
              refine lv_lstore hx hb dJ24_divideMagnitude_1117 hl (by decide) rfl (fun ls hl => ?_)
              have hl : lv_has ls 28 [(23, .long (lN ((qr + e1 0) % 4294967296 * 4294967296 + g (j + 2)))), (25, .long (lN (((e1 1) * qh) - (e1 1)))), (16, .int (nI ((qr + e1 0) % 4294967296))), (15, .int (nI (qh - 1))), (21, .long (lN (g (j + 2)))), (0, .ref a), (1, .ref b), (2, .ref qo), (3, .int 0), (4, .int (nI sh)), (5, .int (nI m0)), (6, .ref vd), (7, .ref ro), (9, .int (nI (j + 1))), (10, .ref vq1), (11, .int (nI (e1 0))), (12, .long (lN (e1 0))), (14, .int (nI (e1 1))), (17, .int (nI sk)), (18, .int (nI (g j))), (19, .int (iI (((g j) : Nat) + (-2147483648))))] := hl
              refine lv_aload_n hx hb dJ24_divideMagnitude_1119 rfl (lv_at hl 5 rfl) ?_
              refine lv_lload hx hb dJ24_divideMagnitude_1120 (lv_at hl 1 rfl) ?_
              refine lv_lload hx hb dJ24_divideMagnitude_1122 (lv_at hl 0 rfl) ?_
              refine gcV2_iP hCF hwm hl.1 (m_uCmp l z H_4 a (e1 1 * qh - e1 1) ((qr + e1 0) % 4294967296 * 4294967296 + g (j + 2)) (Nat.lt_of_le_of_lt (Nat.sub_le _ _) (kn_u he11 hc1)) (kn_v (Nat.mod_lt _ (by decide)) hg2) ) (lw_V q1087 q1089 qs7 q85 q1090) ydv_J24_unsignedLongCompare (hO.recv hal) ⟨Nat.le_of_ble_eq_true rfl, Nat.le_of_ble_eq_true rfl⟩ ⟨by first | omega | (dsimp only; omega), by first | omega | (dsimp only; omega)⟩ (Nat.le_of_ble_eq_true rfl) dJ24_divideMagnitude_1124 (fun r_12 hp => ?_)
              subst hp
              refine lv_if_eq (tgt := 1133) hx hb dJ24_divideMagnitude_1127 (by decide) (fun c_1127 => ?_) (fun c_1127 => ?_)
              · skip
                have c_1127 := gb_0.mp c_1127
                have hle2 := of_decide_eq_false c_1127
                rw [hrm] at hle2
                have hf8 := kn_ok (nl := g (j + 2)) hQE2 (by rw [hqm]; exact Nat.le_of_not_lt hle2)
                exact cutF (qh - 1) hf1 hf4 hf8 ls (lv_sub hl [5, 6, 7, 8, 9, 10, 11, 12, 13, 14, 15, 16, 17, 3, 19, 20] rfl)
              · skip
                have c_1127 := gb_n0 c_1127
                have hgt2 := of_decide_eq_true (by simpa using c_1127)
                rw [hrm] at hgt2
                have htwo := kn_two hgt2
                replace hf4 := kn_over hDs hXs hx0 (kn_gt (nl := g (j + 2)) hQE2 (by rw [hqm]; exact hgt2)) hDpos
                replace hf1 : qh - 1 - 1 < 4294967296 := Nat.lt_of_le_of_lt (Nat.sub_le _ _) hf1
                have hf8 := kn_ov (nl := g (j + 2)) (kn_e1 hQE2 (show 0 < qh - 1 by clear hDs hXs hd0 hx0 hDpos hXB hi2 hf4; omega)) (kn_rr hD2 (Nat.le_add_left _ _)) hf1 he11
                refine lv_iinc (k := 3) (v := (nI (qh - 1 - 1))) hx hb dJ24_divideMagnitude_1130 hl rfl (ai_sbn (a := qh - 1) (b := 1) rfl (show Int32.ofInt (-1) = -nI 1 by decide) (Nat.le_sub_of_add_le htwo)) (by decide) rfl (fun ls hl => ?_)
                have hl : lv_has ls 28 [(15, .int (nI (qh - 1 - 1))), (23, .long (lN ((qr + e1 0) % 4294967296 * 4294967296 + g (j + 2)))), (25, .long (lN (((e1 1) * qh) - (e1 1)))), (16, .int (nI ((qr + e1 0) % 4294967296))), (21, .long (lN (g (j + 2)))), (0, .ref a), (1, .ref b), (2, .ref qo), (3, .int 0), (4, .int (nI sh)), (5, .int (nI m0)), (6, .ref vd), (7, .ref ro), (9, .int (nI (j + 1))), (10, .ref vq1), (11, .int (nI (e1 0))), (12, .long (lN (e1 0))), (14, .int (nI (e1 1))), (17, .int (nI sk)), (18, .int (nI (g j))), (19, .int (iI (((g j) : Nat) + (-2147483648))))] := hl
                exact cutF (qh - 1 - 1) hf1 hf4 hf8 ls (lv_sub hl [5, 6, 7, 8, 9, 10, 11, 12, 13, 14, 15, 16, 17, 0, 19, 20] rfl)
    refine lv_iconst (v := 0) hx hb dJ24_divideMagnitude_828 (by decide) ?_
    refine lv_istore hx hb dJ24_divideMagnitude_829 hl (by decide) rfl (fun ls hl => ?_)
    have hl : lv_has ls 28 [(15, .int 0), (0, .ref a), (1, .ref b), (2, .ref qo), (3, .int 0), (4, .int (nI sh)), (5, .int (nI m0)), (6, .ref vd), (7, .ref ro), (9, .int (nI (j + 1))), (10, .ref vq1), (11, .int (nI (e1 0))), (12, .long (lN (e1 0))), (14, .int (nI (e1 1)))] := hl
    refine lv_iconst (v := 0) hx hb dJ24_divideMagnitude_831 (by decide) ?_
    refine lv_istore hx hb dJ24_divideMagnitude_832 hl (by decide) rfl (fun ls hl => ?_)
    have hl : lv_has ls 28 [(16, .int 0), (15, .int 0), (0, .ref a), (1, .ref b), (2, .ref qo), (3, .int 0), (4, .int (nI sh)), (5, .int (nI m0)), (6, .ref vd), (7, .ref ro), (9, .int (nI (j + 1))), (10, .ref vq1), (11, .int (nI (e1 0))), (12, .long (lN (e1 0))), (14, .int (nI (e1 1)))] := hl
    refine lv_iconst (v := 0) hx hb dJ24_divideMagnitude_834 (by decide) ?_
    refine lv_istore hx hb dJ24_divideMagnitude_835 hl (by decide) rfl (fun ls hl => ?_)
    have hl : lv_has ls 28 [(17, .int 0), (16, .int 0), (15, .int 0), (0, .ref a), (1, .ref b), (2, .ref qo), (3, .int 0), (4, .int (nI sh)), (5, .int (nI m0)), (6, .ref vd), (7, .ref ro), (9, .int (nI (j + 1))), (10, .ref vq1), (11, .int (nI (e1 0))), (12, .long (lN (e1 0))), (14, .int (nI (e1 1)))] := hl
    refine lv_aload hx hb dJ24_divideMagnitude_837 (lv_at hl 10 rfl) ?_
    refine gw_get (C := RJ24) (T := TJ24) (N := 3) (v := .ref vr) hx hb hts in_J24 hown hal hRo 0 (by decide) (hts _ q979) (fun _ h9 => h9) rfl dJ24_divideMagnitude_839 ?_
    refine lv_iload hx hb dJ24_divideMagnitude_842 (lv_at hl 11 rfl) ?_
    refine lv_iconst (v := 1) hx hb dJ24_divideMagnitude_844 (by decide) ?_
    refine lv_isub hx hb dJ24_divideMagnitude_845 ?_
    refine g_topi (v := nI j) (ai_sub (a := (j + 1)) (b := 1) (rfl) (rfl) (by omega)) ?_
    refine lv_aload hx hb dJ24_divideMagnitude_846 (lv_at hl 10 rfl) ?_
    refine gw_get (C := RJ24) (T := TJ24) (N := 3) (v := .int 0) hx hb hts in_J24 hown hal hRo 2 (by decide) (hts _ q981) (fun _ h9 => h9) rfl dJ24_divideMagnitude_848 ?_
    refine lv_iadd hx hb dJ24_divideMagnitude_851 ?_
    refine g_topi (v := nI j) (ai_add (a := j) (b := 0) (rfl) (rfl)) ?_
    refine gw_iald hx hb hal hRa j (rfl) (by omega) (by omega) dJ24_divideMagnitude_852 ?_
    refine g_topi (v := (nI (g j))) rfl ?_
    refine lv_istore hx hb dJ24_divideMagnitude_853 hl (by decide) rfl (fun ls hl => ?_)
    have hl : lv_has ls 28 [(18, .int (nI (g j))), (17, .int 0), (16, .int 0), (15, .int 0), (0, .ref a), (1, .ref b), (2, .ref qo), (3, .int 0), (4, .int (nI sh)), (5, .int (nI m0)), (6, .ref vd), (7, .ref ro), (9, .int (nI (j + 1))), (10, .ref vq1), (11, .int (nI (e1 0))), (12, .long (lN (e1 0))), (14, .int (nI (e1 1)))] := hl
    refine lv_iload hx hb dJ24_divideMagnitude_855 (lv_at hl 0 rfl) ?_
    refine lv_ldc (v := -2147483648) hx hb hown (hts _ q1012) dJ24_divideMagnitude_857 ?_
    refine lv_iadd hx hb dJ24_divideMagnitude_859 ?_
    refine g_topi (v := iI (((g j) : Nat) + (-2147483648))) (ai_addI (a := ((g j) : Nat)) (b := (-2147483648)) (nI_iI _) (by decide)) ?_
    refine lv_istore hx hb dJ24_divideMagnitude_860 hl (by decide) rfl (fun ls hl => ?_)
    have hl : lv_has ls 28 [(19, .int (iI (((g j) : Nat) + (-2147483648)))), (18, .int (nI (g j))), (17, .int 0), (16, .int 0), (15, .int 0), (0, .ref a), (1, .ref b), (2, .ref qo), (3, .int 0), (4, .int (nI sh)), (5, .int (nI m0)), (6, .ref vd), (7, .ref ro), (9, .int (nI (j + 1))), (10, .ref vq1), (11, .int (nI (e1 0))), (12, .long (lN (e1 0))), (14, .int (nI (e1 1)))] := hl
    refine lv_aload hx hb dJ24_divideMagnitude_862 (lv_at hl 12 rfl) ?_
    refine gw_get (C := RJ24) (T := TJ24) (N := 3) (v := .ref vr) hx hb hts in_J24 hown hal hRo 0 (by decide) (hts _ q979) (fun _ h9 => h9) rfl dJ24_divideMagnitude_864 ?_
    refine lv_iload hx hb dJ24_divideMagnitude_867 (lv_at hl 13 rfl) ?_
    refine lv_aload hx hb dJ24_divideMagnitude_869 (lv_at hl 12 rfl) ?_
    refine gw_get (C := RJ24) (T := TJ24) (N := 3) (v := .int 0) hx hb hts in_J24 hown hal hRo 2 (by decide) (hts _ q981) (fun _ h9 => h9) rfl dJ24_divideMagnitude_871 ?_
    refine lv_iadd hx hb dJ24_divideMagnitude_874 ?_
    refine g_topi (v := nI (j + 1)) (ai_add (a := (j + 1)) (b := 0) (rfl) (rfl)) ?_
    refine gw_iald hx hb hal hRa (j + 1) (rfl) (by omega) (by omega) dJ24_divideMagnitude_875 ?_
    refine g_topi (v := (nI (g (j + 1)))) rfl ?_
    refine lv_istore hx hb dJ24_divideMagnitude_876 hl (by decide) rfl (fun ls hl => ?_)
    have hl : lv_has ls 28 [(20, .int (nI (g (j + 1)))), (19, .int (iI (((g j) : Nat) + (-2147483648)))), (18, .int (nI (g j))), (17, .int 0), (16, .int 0), (15, .int 0), (0, .ref a), (1, .ref b), (2, .ref qo), (3, .int 0), (4, .int (nI sh)), (5, .int (nI m0)), (6, .ref vd), (7, .ref ro), (9, .int (nI (j + 1))), (10, .ref vq1), (11, .int (nI (e1 0))), (12, .long (lN (e1 0))), (14, .int (nI (e1 1)))] := hl
    refine lv_iload hx hb dJ24_divideMagnitude_878 (lv_at hl 2 rfl) ?_
    refine lv_iload hx hb dJ24_divideMagnitude_880 (lv_at hl 16 rfl) ?_
    refine lv_icmp_ne (tgt := 915) hx hb dJ24_divideMagnitude_882 (by decide) (fun c_882 => ?_) (fun c_882 => ?_)
    · skip
      have c_882 := mt (ai_eqU (a := (g j)) (b := (e1 0)) (rfl) (rfl) (hg _) (he1 _)).mpr c_882
      have hnh2 : g j < e1 0 := by omega
      have hq9 := dow_q hnh2 hg1
      have hq8 := Nat.div_add_mod (g j * 4294967296 + g (j + 1)) (e1 0)
      have hq7 := Nat.mod_lt (g j * 4294967296 + g (j + 1)) (show 0 < e1 0 by omega)
      have hb1 : (g j * 4294967296 + g (j + 1)) / e1 0 < 4294967296 := hq9
      have hb2 : (g j * 4294967296 + g (j + 1)) % e1 0 < 4294967296 := Nat.lt_trans hq7 he10
      have hb4 := kn_b hDs hXs hx0 hg2 (show 0 < e1 0 by omega) hDpos
      have hb5 : 0 = 0 → (g j * 4294967296 + g (j + 1)) / e1 0 * e1 0 + (g j * 4294967296 + g (j + 1)) % e1 0 = (g j * 4294967296 + g (j + 1)) := fun _ => by rw [Nat.mul_comm]; exact hq8
      have hb6 : 0 = 1 → (g j * 4294967296 + g (j + 1)) / e1 0 * (e1 0 * 4294967296 + e1 1) ≤ ((g j * 4294967296 + g (j + 1)) * 4294967296 + g (j + 2)) := fun q => by cases q
      have hb7 : (g j * 4294967296 + g (j + 1)) / e1 0 = 0 → (g j * 4294967296 + g (j + 1)) < e1 0 := fun q => by rw [q, Nat.mul_zero] at hq8; omega
      refine lv_iload hx hb dJ24_divideMagnitude_915 (lv_at hl 2 rfl) ?_
      refine lv_i2l hx hb dJ24_divideMagnitude_917 rfl ?_
      refine lv_bipush (v := 32) hx hb dJ24_divideMagnitude_918 (by decide) ?_
      refine lv_lshl hx hb dJ24_divideMagnitude_920 rfl ?_
      refine g_topl (v := (lN (g j * 4294967296))) (i2l_shl hg0) ?_
      refine lv_iload hx hb dJ24_divideMagnitude_921 (lv_at hl 0 rfl) ?_
      refine lv_i2l hx hb dJ24_divideMagnitude_923 rfl ?_
      refine lv_ldc2 (v := 4294967295) hx hb hown (hts _ q1035) dJ24_divideMagnitude_924 ?_
      refine lv_land hx hb dJ24_divideMagnitude_927 ?_
      refine g_topl (v := lN (g (j + 1))) (mk32 (a := (g (j + 1))) (rfl) (hg _)) ?_
      refine lv_lor hx hb dJ24_divideMagnitude_928 ?_
      refine g_topl (v := (lN (g j * 4294967296 + g (j + 1)))) (lN_or hg1 hg0) ?_
      refine lv_lstore hx hb dJ24_divideMagnitude_929 hl (by decide) rfl (fun ls hl => ?_)
      have hl : lv_has ls 28 [(21, .long (lN (g j * 4294967296 + g (j + 1)))), (20, .int (nI (g (j + 1)))), (19, .int (iI (((g j) : Nat) + (-2147483648)))), (18, .int (nI (g j))), (17, .int 0), (16, .int 0), (15, .int 0), (0, .ref a), (1, .ref b), (2, .ref qo), (3, .int 0), (4, .int (nI sh)), (5, .int (nI m0)), (6, .ref vd), (7, .ref ro), (9, .int (nI (j + 1))), (10, .ref vq1), (11, .int (nI (e1 0))), (12, .long (lN (e1 0))), (14, .int (nI (e1 1)))] := hl
      refine lv_lload hx hb dJ24_divideMagnitude_931 (lv_at hl 0 rfl) ?_
      refine lv_lconst (v := 0) hx hb dJ24_divideMagnitude_933 (by decide) ?_
      refine W.lcmp hx hb dJ24_divideMagnitude_934 ?_
      refine lv_if_lt (tgt := 961) hx hb dJ24_divideMagnitude_935 (by decide) (fun c_935 => ?_) (fun c_935 => ?_)
      · skip
        have c_935 := (lN_neg0 (by omega)).mp c_935
        refine lv_lload hx hb dJ24_divideMagnitude_961 (lv_at hl 0 rfl) ?_
        refine lv_iload hx hb dJ24_divideMagnitude_963 (lv_at hl 17 rfl) ?_
        refine gcS2_lP hCF hwm hl.1 (m_divWord l z H_4  (g j * 4294967296 + g (j + 1)) (e1 0) hD2 he10 (by omega) hq9 ) (lw_S q1037 q1038 q85 q1039) yd_J24_divWord ⟨Nat.le_of_ble_eq_true rfl, Nat.le_of_ble_eq_true rfl⟩ ⟨by first | omega | (dsimp only; omega), by first | omega | (dsimp only; omega)⟩ (Nat.le_of_ble_eq_true rfl) dJ24_divideMagnitude_965 (fun r_13 hp => ?_)
        subst hp
        refine lv_lstore hx hb dJ24_divideMagnitude_968 hl (by decide) rfl (fun ls hl => ?_)
        have hl : lv_has ls 28 [(23, .long (lN ((g j * 4294967296 + g (j + 1)) % e1 0 * 4294967296 + (g j * 4294967296 + g (j + 1)) / e1 0))), (21, .long (lN (g j * 4294967296 + g (j + 1)))), (20, .int (nI (g (j + 1)))), (19, .int (iI (((g j) : Nat) + (-2147483648)))), (18, .int (nI (g j))), (17, .int 0), (16, .int 0), (15, .int 0), (0, .ref a), (1, .ref b), (2, .ref qo), (3, .int 0), (4, .int (nI sh)), (5, .int (nI m0)), (6, .ref vd), (7, .ref ro), (9, .int (nI (j + 1))), (10, .ref vq1), (11, .int (nI (e1 0))), (12, .long (lN (e1 0))), (14, .int (nI (e1 1)))] := hl
        refine lv_lload hx hb dJ24_divideMagnitude_970 (lv_at hl 0 rfl) ?_
        refine lv_ldc2 (v := 4294967295) hx hb hown (hts _ q1035) dJ24_divideMagnitude_972 ?_
        refine lv_land hx hb dJ24_divideMagnitude_975 ?_
        refine g_topl (v := lN (((g j * 4294967296 + g (j + 1)) % e1 0 * 4294967296 + (g j * 4294967296 + g (j + 1)) / e1 0) % 4294967296)) (lN_and _) ?_
        refine lv_l2i hx hb dJ24_divideMagnitude_976 rfl ?_
        refine g_topi (v := (nI ((g j * 4294967296 + g (j + 1)) / e1 0))) ((ai_l2i (a := ((g j * 4294967296 + g (j + 1)) % e1 0 * 4294967296 + (g j * 4294967296 + g (j + 1)) / e1 0) % 4294967296) rfl).trans (congrArg nI (kn_lo hq9))) ?_
        refine lv_istore hx hb dJ24_divideMagnitude_977 hl (by decide) rfl (fun ls hl => ?_)
        have hl : lv_has ls 28 [(15, .int (nI ((g j * 4294967296 + g (j + 1)) / e1 0))), (23, .long (lN ((g j * 4294967296 + g (j + 1)) % e1 0 * 4294967296 + (g j * 4294967296 + g (j + 1)) / e1 0))), (21, .long (lN (g j * 4294967296 + g (j + 1)))), (20, .int (nI (g (j + 1)))), (19, .int (iI (((g j) : Nat) + (-2147483648)))), (18, .int (nI (g j))), (17, .int 0), (16, .int 0), (0, .ref a), (1, .ref b), (2, .ref qo), (3, .int 0), (4, .int (nI sh)), (5, .int (nI m0)), (6, .ref vd), (7, .ref ro), (9, .int (nI (j + 1))), (10, .ref vq1), (11, .int (nI (e1 0))), (12, .long (lN (e1 0))), (14, .int (nI (e1 1)))] := hl
        refine lv_lload hx hb dJ24_divideMagnitude_979 (lv_at hl 1 rfl) ?_
        refine lv_bipush (v := 32) hx hb dJ24_divideMagnitude_981 (by decide) ?_
        refine lv_lushr hx hb dJ24_divideMagnitude_983 rfl ?_
        refine g_topl (v := lN (((g j * 4294967296 + g (j + 1)) % e1 0 * 4294967296 + (g j * 4294967296 + g (j + 1)) / e1 0) / 4294967296)) (lN_shr32 (a := ((g j * 4294967296 + g (j + 1)) % e1 0 * 4294967296 + (g j * 4294967296 + g (j + 1)) / e1 0)) (kn_v hb2 hq9)) ?_
        refine lv_l2i hx hb dJ24_divideMagnitude_984 rfl ?_
        refine g_topi (v := (nI ((g j * 4294967296 + g (j + 1)) % e1 0))) ((ai_l2i (a := ((g j * 4294967296 + g (j + 1)) % e1 0 * 4294967296 + (g j * 4294967296 + g (j + 1)) / e1 0) / 4294967296) rfl).trans (congrArg nI (kn_hi hq9))) ?_
        refine lv_istore hx hb dJ24_divideMagnitude_985 hl (by decide) rfl (fun ls hl => ?_)
        have hl : lv_has ls 28 [(16, .int (nI ((g j * 4294967296 + g (j + 1)) % e1 0))), (15, .int (nI ((g j * 4294967296 + g (j + 1)) / e1 0))), (23, .long (lN ((g j * 4294967296 + g (j + 1)) % e1 0 * 4294967296 + (g j * 4294967296 + g (j + 1)) / e1 0))), (21, .long (lN (g j * 4294967296 + g (j + 1)))), (20, .int (nI (g (j + 1)))), (19, .int (iI (((g j) : Nat) + (-2147483648)))), (18, .int (nI (g j))), (17, .int 0), (0, .ref a), (1, .ref b), (2, .ref qo), (3, .int 0), (4, .int (nI sh)), (5, .int (nI m0)), (6, .ref vd), (7, .ref ro), (9, .int (nI (j + 1))), (10, .ref vq1), (11, .int (nI (e1 0))), (12, .long (lN (e1 0))), (14, .int (nI (e1 1)))] := hl
        exact cutE ((g j * 4294967296 + g (j + 1)) / e1 0) ((g j * 4294967296 + g (j + 1)) % e1 0) 0 hb1 hb2 (by decide) hb4 hb5 hb6 hb7 ls (lv_sub hl [8, 9, 10, 11, 12, 13, 14, 15, 16, 17, 18, 19, 20, 1, 0, 7, 6, 5] rfl)
      · skip
        have c_935 := mt (lN_neg0 (by omega)).mpr c_935
        refine lv_lload hx hb dJ24_divideMagnitude_938 (lv_at hl 0 rfl) ?_
        refine lv_lload hx hb dJ24_divideMagnitude_940 (lv_at hl 18 rfl) ?_
        refine lv_ldiv hx hb dJ24_divideMagnitude_942 (lN_ne0 (by omega) (by omega)) ?_
        refine g_topl (v := (lN ((g j * 4294967296 + g (j + 1)) / e1 0))) (lN_div (by omega) (by omega) (by omega)) ?_
        refine lv_l2i hx hb dJ24_divideMagnitude_943 rfl ?_
        refine g_topi (v := nI ((g j * 4294967296 + g (j + 1)) / e1 0)) (ai_l2i (rfl)) ?_
        refine lv_istore hx hb dJ24_divideMagnitude_944 hl (by decide) rfl (fun ls hl => ?_)
        have hl : lv_has ls 28 [(15, .int (nI ((g j * 4294967296 + g (j + 1)) / e1 0))), (21, .long (lN (g j * 4294967296 + g (j + 1)))), (20, .int (nI (g (j + 1)))), (19, .int (iI (((g j) : Nat) + (-2147483648)))), (18, .int (nI (g j))), (17, .int 0), (16, .int 0), (0, .ref a), (1, .ref b), (2, .ref qo), (3, .int 0), (4, .int (nI sh)), (5, .int (nI m0)), (6, .ref vd), (7, .ref ro), (9, .int (nI (j + 1))), (10, .ref vq1), (11, .int (nI (e1 0))), (12, .long (lN (e1 0))), (14, .int (nI (e1 1)))] := hl
        refine lv_lload hx hb dJ24_divideMagnitude_946 (lv_at hl 1 rfl) ?_
        refine lv_iload hx hb dJ24_divideMagnitude_948 (lv_at hl 0 rfl) ?_
        refine lv_i2l hx hb dJ24_divideMagnitude_950 rfl ?_
        refine lv_lload hx hb dJ24_divideMagnitude_951 (lv_at hl 18 rfl) ?_
        refine lv_lmul hx hb dJ24_divideMagnitude_953 ?_
        refine lv_lsub hx hb dJ24_divideMagnitude_954 ?_
        refine lv_l2i hx hb dJ24_divideMagnitude_955 rfl ?_
        refine g_topi (v := (nI ((g j * 4294967296 + g (j + 1)) % e1 0))) ((l2i_sx (Nat.div_mul_le_self _ _) hq9).trans (congrArg nI kn_md)) ?_
        refine lv_istore hx hb dJ24_divideMagnitude_956 hl (by decide) rfl (fun ls hl => ?_)
        have hl : lv_has ls 28 [(16, .int (nI ((g j * 4294967296 + g (j + 1)) % e1 0))), (15, .int (nI ((g j * 4294967296 + g (j + 1)) / e1 0))), (21, .long (lN (g j * 4294967296 + g (j + 1)))), (20, .int (nI (g (j + 1)))), (19, .int (iI (((g j) : Nat) + (-2147483648)))), (18, .int (nI (g j))), (17, .int 0), (0, .ref a), (1, .ref b), (2, .ref qo), (3, .int 0), (4, .int (nI sh)), (5, .int (nI m0)), (6, .ref vd), (7, .ref ro), (9, .int (nI (j + 1))), (10, .ref vq1), (11, .int (nI (e1 0))), (12, .long (lN (e1 0))), (14, .int (nI (e1 1)))] := hl
        refine lv_goto (tgt := 987) hx hb dJ24_divideMagnitude_958 (by decide) ?_
        exact cutE ((g j * 4294967296 + g (j + 1)) / e1 0) ((g j * 4294967296 + g (j + 1)) % e1 0) 0 hb1 hb2 (by decide) hb4 hb5 hb6 hb7 ls (lv_sub hl [7, 8, 9, 10, 11, 12, 13, 14, 15, 16, 17, 18, 19, 1, 0, 6, 5, 4] rfl)
    · skip
      have c_882 := (ai_eqU (a := (g j)) (b := (e1 0)) (rfl) (rfl) (hg _) (he1 _)).mp c_882
      have hnh2 : g j = e1 0 := by omega
      refine lv_iconst (v := -1) hx hb dJ24_divideMagnitude_885 (by decide) ?_
      refine lv_istore hx hb dJ24_divideMagnitude_886 hl (by decide) rfl (fun ls hl => ?_)
      have hl : lv_has ls 28 [(15, .int (-1)), (20, .int (nI (g (j + 1)))), (19, .int (iI (((g j) : Nat) + (-2147483648)))), (18, .int (nI (g j))), (17, .int 0), (16, .int 0), (0, .ref a), (1, .ref b), (2, .ref qo), (3, .int 0), (4, .int (nI sh)), (5, .int (nI m0)), (6, .ref vd), (7, .ref ro), (9, .int (nI (j + 1))), (10, .ref vq1), (11, .int (nI (e1 0))), (12, .long (lN (e1 0))), (14, .int (nI (e1 1)))] := hl
      replace hl : lv_has ls 28 [(15, .int (nI 4294967295)), (20, .int (nI (g (j + 1)))), (19, .int (iI (((g j) : Nat) + (-2147483648)))), (18, .int (nI (g j))), (17, .int 0), (16, .int 0), (0, .ref a), (1, .ref b), (2, .ref qo), (3, .int 0), (4, .int (nI sh)), (5, .int (nI m0)), (6, .ref vd), (7, .ref ro), (9, .int (nI (j + 1))), (10, .ref vq1), (11, .int (nI (e1 0))), (12, .long (lN (e1 0))), (14, .int (nI (e1 1)))] := by
        rw [show nI 4294967295 = -1 by decide]
        exact hl
      refine lv_iload hx hb dJ24_divideMagnitude_888 (lv_at hl 3 rfl) ?_
      refine lv_iload hx hb dJ24_divideMagnitude_890 (lv_at hl 1 rfl) ?_
      refine lv_iadd hx hb dJ24_divideMagnitude_892 ?_
      refine g_topi (v := (nI ((g j + g (j + 1)) % 4294967296))) (by rw [nI_mod, nI_add]) ?_
      refine lv_istore hx hb dJ24_divideMagnitude_893 hl (by decide) rfl (fun ls hl => ?_)
      have hl : lv_has ls 28 [(16, .int (nI ((g j + g (j + 1)) % 4294967296))), (15, .int (nI 4294967295)), (20, .int (nI (g (j + 1)))), (19, .int (iI (((g j) : Nat) + (-2147483648)))), (18, .int (nI (g j))), (17, .int 0), (0, .ref a), (1, .ref b), (2, .ref qo), (3, .int 0), (4, .int (nI sh)), (5, .int (nI m0)), (6, .ref vd), (7, .ref ro), (9, .int (nI (j + 1))), (10, .ref vq1), (11, .int (nI (e1 0))), (12, .long (lN (e1 0))), (14, .int (nI (e1 1)))] := hl
      refine lv_iload hx hb dJ24_divideMagnitude_895 (lv_at hl 0 rfl) ?_
      refine lv_ldc (v := -2147483648) hx hb hown (hts _ q1012) dJ24_divideMagnitude_897 ?_
      refine lv_iadd hx hb dJ24_divideMagnitude_899 ?_
      refine g_topi (v := iI ((((g j + g (j + 1)) % 4294967296) : Nat) + (-2147483648))) (ai_addI (a := (((g j + g (j + 1)) % 4294967296) : Nat)) (b := (-2147483648)) (nI_iI _) (by decide)) ?_
      refine lv_iload hx hb dJ24_divideMagnitude_900 (lv_at hl 3 rfl) ?_
      refine lv_icmp_ge (tgt := 909) hx hb dJ24_divideMagnitude_902 (by decide) (fun c_902 => ?_) (fun c_902 => ?_)
      · skip
        have c_902 := (ai_leI (a := (((g j) : Nat) + (-2147483648))) (b := ((((g j + g (j + 1)) % 4294967296) : Nat) + (-2147483648))) (rfl) (rfl) (by omega) (by omega) (by omega) (by omega)).mp c_902
        have hb1 : 4294967295 < 4294967296 := by decide
        have hb2 : (g j + g (j + 1)) % 4294967296 < 4294967296 := Nat.mod_lt _ (by decide)
        have hb4 := kn_a hXB hDpos
        have hb5 : 0 = 0 → 4294967295 * e1 0 + (g j + g (j + 1)) % 4294967296 = (g j * 4294967296 + g (j + 1)) := fun _ => by omega
        have hb6 : 0 = 1 → 4294967295 * (e1 0 * 4294967296 + e1 1) ≤ ((g j * 4294967296 + g (j + 1)) * 4294967296 + g (j + 2)) := fun q => by cases q
        have hb7 : 4294967295 = 0 → (g j * 4294967296 + g (j + 1)) < e1 0 := fun q => by cases q
        refine lv_iconst (v := 0) hx hb dJ24_divideMagnitude_909 (by decide) ?_
        refine lv_istore hx hb dJ24_divideMagnitude_910 hl (by decide) rfl (fun ls hl => ?_)
        have hl : lv_has ls 28 [(17, .int 0), (16, .int (nI ((g j + g (j + 1)) % 4294967296))), (15, .int (nI 4294967295)), (20, .int (nI (g (j + 1)))), (19, .int (iI (((g j) : Nat) + (-2147483648)))), (18, .int (nI (g j))), (0, .ref a), (1, .ref b), (2, .ref qo), (3, .int 0), (4, .int (nI sh)), (5, .int (nI m0)), (6, .ref vd), (7, .ref ro), (9, .int (nI (j + 1))), (10, .ref vq1), (11, .int (nI (e1 0))), (12, .long (lN (e1 0))), (14, .int (nI (e1 1)))] := hl
        refine lv_goto (tgt := 987) hx hb dJ24_divideMagnitude_912 (by decide) ?_
        exact cutE 4294967295 ((g j + g (j + 1)) % 4294967296) 0 hb1 hb2 (by decide) hb4 hb5 hb6 hb7 ls (lv_sub hl [6, 7, 8, 9, 10, 11, 12, 13, 14, 15, 16, 17, 18, 2, 1, 0, 5, 4] rfl)
      · skip
        have c_902 := mt (ai_leI (a := (((g j) : Nat) + (-2147483648))) (b := ((((g j + g (j + 1)) % 4294967296) : Nat) + (-2147483648))) (rfl) (rfl) (by omega) (by omega) (by omega) (by omega)).mpr c_902
        have hb1 : 4294967295 < 4294967296 := by decide
        have hb2 : (g j + g (j + 1)) % 4294967296 < 4294967296 := Nat.mod_lt _ (by decide)
        have hb4 := kn_a hXB hDpos
        have hb5 : 1 = 0 → 4294967295 * e1 0 + (g j + g (j + 1)) % 4294967296 = (g j * 4294967296 + g (j + 1)) := fun q => by cases q
        have hb6 : 1 = 1 → 4294967295 * (e1 0 * 4294967296 + e1 1) ≤ ((g j * 4294967296 + g (j + 1)) * 4294967296 + g (j + 2)) := fun _ => kn_ov (r := g j + g (j + 1)) (by omega) (by omega) (by decide) he11
        have hb7 : 4294967295 = 0 → (g j * 4294967296 + g (j + 1)) < e1 0 := fun q => by cases q
        refine lv_iconst (v := 1) hx hb dJ24_divideMagnitude_905 (by decide) ?_
        refine lv_goto (tgt := 910) hx hb dJ24_divideMagnitude_906 (by decide) ?_
        refine lv_istore hx hb dJ24_divideMagnitude_910 hl (by decide) rfl (fun ls hl => ?_)
        have hl : lv_has ls 28 [(17, .int 1), (16, .int (nI ((g j + g (j + 1)) % 4294967296))), (15, .int (nI 4294967295)), (20, .int (nI (g (j + 1)))), (19, .int (iI (((g j) : Nat) + (-2147483648)))), (18, .int (nI (g j))), (0, .ref a), (1, .ref b), (2, .ref qo), (3, .int 0), (4, .int (nI sh)), (5, .int (nI m0)), (6, .ref vd), (7, .ref ro), (9, .int (nI (j + 1))), (10, .ref vq1), (11, .int (nI (e1 0))), (12, .long (lN (e1 0))), (14, .int (nI (e1 1)))] := hl
        refine lv_goto (tgt := 987) hx hb dJ24_divideMagnitude_912 (by decide) ?_
        exact cutE 4294967295 ((g j + g (j + 1)) % 4294967296) 1 hb1 hb2 (by decide) hb4 hb5 hb6 hb7 ls (lv_sub hl [6, 7, 8, 9, 10, 11, 12, 13, 14, 15, 16, 17, 18, 2, 1, 0, 5, 4] rfl)
  have cutA : ∀ (n_ : Nat) (vd ro vr vq1 nl lim sh j : Nat) (e1 g q1 : Nat → Nat), (∀ i, e1 i < 4294967296) → (2147483648 ≤ e1 0) → (seg e1 0 m0 = seg ee 0 m0 * 2 ^ sh) → (sh < 32) → (n ≤ nl ∧ nl ≤ n + 1) → (adF H0.size vq qo vd ro vr vq1) → (nl + 1 = lim + m0) → (j < lim) → (∀ i, g i < 4294967296) → (∀ i, q1 i < 4294967296) → (seg g j m0 < seg e1 0 m0) → (seg d 0 n * 2 ^ sh = seg q1 0 j * 4294967296 ^ (lim - j) * seg e1 0 m0 + seg g j (m0 + (lim - j))) → (∀ i, i < j → g i = 0) → (∀ i, j ≤ i → i < lim → q1 i = 0) → (lim - j) < n_ → ∀ (H_14 : Heap) (locs : List Loc), va_S (fun q => q = qo ∨ q = vq ∨ H0.size ≤ q) H0 H_14 locs → gO z wa RJ24 TJ24 3 H_14 a [.ref va, .int (nI n), .int 0] → gI z true .int H_14 vd m0 (dI e1) → gO z true RJ24 TJ24 3 H_14 ro [.ref vr, .int (nI (nl + 1)), .int 0] → gI z true .int H_14 vr (nl + 1) (dI g) → gO z true RJ24 TJ24 3 H_14 qo [.ref vq1, .int (nI lim), .int 0] → gI z true .int H_14 vq1 lim (dI q1) → ∀ (ls : Array Slot), lv_has ls 28 [(0, .ref a), (1, .ref b), (2, .ref qo), (3, .int 0), (4, .int (nI sh)), (5, .int (nI m0)), (6, .ref vd), (7, .ref ro), (9, .int (nI lim)), (10, .ref vq1), (11, .int (nI (e1 0))), (12, .long (lN (e1 0))), (14, .int (nI (e1 1))), (15, .int (nI j))] → W p l e { frames := 3, cells := 4, slots := (2 * n + 7), locals := 86 } s m [.ref a, .ref b, .ref qo, .int 0].toArray below meth c H_14 locs 4 (2 * n + 7) (MQ below (gRn (fun q => q = qo ∨ q = vq ∨ H0.size ≤ q) H0 (fun H1 => ∃ v1, (v1 = vq ∨ H0.size ≤ v1) ∧ v1 ≠ qo ∧ mV z H1 qo v1 (n + 2) (seg d 0 n / seg ee 0 m0))) [.ref a, .ref b, .ref qo, .int 0].toArray s 4 (2 * n + 7) (fun q => q = qo ∨ q = vq ∨ H0.size ≤ q)) (F0 m 423 ls []) := by
    intro n_
    induction n_ with
    | zero => intro vd ro vr vq1 nl lim sh j e1 g q1 he1 hD2 hDv hsh hnl hk hlim hj hg hq1b hi1 hi2 hz hq0 hm_; exact absurd hm_ (Nat.not_lt_zero _)
    | succ n_ ih_cutA =>
      intro vd ro vr vq1 nl lim sh j e1 g q1 he1 hD2 hDv hsh hnl hk hlim hj hg hq1b hi1 hi2 hz hq0 hm_ H_14 locs hS hO hV hRo hRa hQo hQa ls hl
      have hDs := kn_split (d := e1) (o := 0) hm2
      rw [Nat.zero_add, Nat.zero_add] at hDs
      have hXs := kn_split3 (d := g) (o := j) hm2
      have hd0 := seg_lt he1 2 (m0 - 2)
      have hx0 := seg_lt hg (j + 3) (m0 - 2)
      have hDpos : 0 < seg e1 0 m0 := seg_pos (by omega) (by omega)
      have hXB := kn_xb hg hi1
      have hnh := kn_nh he1 (by omega) hi1
      have he10 := he1 0
      have he11 := he1 1
      have hg0 := hg j
      have hg1 := hg (j + 1)
      have hg2 := hg (j + 2)
      have cutC : ∀ (qh : Nat), (qh < 4294967296) → (seg g j (m0 + 1) / seg e1 0 m0 ≤ qh) → (qh * (e1 0 * 4294967296 + e1 1) ≤ ((g j * 4294967296 + g (j + 1)) * 4294967296 + g (j + 2))) → (j + 1 < lim) → ∀ (ls : Array Slot), lv_has ls 28 [(0, .ref a), (1, .ref b), (2, .ref qo), (3, .int 0), (4, .int (nI sh)), (5, .int (nI m0)), (6, .ref vd), (7, .ref ro), (9, .int (nI lim)), (10, .ref vq1), (11, .int (nI (e1 0))), (12, .long (lN (e1 0))), (14, .int (nI (e1 1))), (15, .int (nI j)), (16, .int (nI qh)), (19, .int (nI (g j))), (20, .int (iI (((g j) : Nat) + (-2147483648))))] → W p l e { frames := 3, cells := 4, slots := (2 * n + 7), locals := 86 } s m [.ref a, .ref b, .ref qo, .int 0].toArray below meth c H_14 locs 4 (2 * n + 7) (MQ below (gRn (fun q => q = qo ∨ q = vq ∨ H0.size ≤ q) H0 (fun H1 => ∃ v1, (v1 = vq ∨ H0.size ≤ v1) ∧ v1 ≠ qo ∧ mV z H1 qo v1 (n + 2) (seg d 0 n / seg ee 0 m0))) [.ref a, .ref b, .ref qo, .int 0].toArray s 4 (2 * n + 7) (fun q => q = qo ∨ q = vq ∨ H0.size ≤ q)) (F0 m 740 ls []) := by
        intro qh hf1 hf4 hf8 hjl ls hl
        have hfin := kn_fin hDs hXs hd0 hf8 (by omega) hDpos
        have hXl : seg g j (m0 + 1) = g j * 4294967296 ^ m0 + seg g (j + 1) m0 := seg_l g j m0
        have hDlt : seg e1 0 m0 < 4294967296 ^ m0 := seg_lt he1 0 m0
        have hgz : seg (dup g j (0 % 4294967296)) (j + 1) m0 = seg g (j + 1) m0 := seg_cg fun i h1 h2 => dup_n (by omega)
        have hgzb : ∀ ix, dup g j (0 % 4294967296) ix < 4294967296 := dup_lt hg (by decide)
        refine lv_aload hx hb dJ24_divideMagnitude_740 (lv_at hl 7 rfl) ?_
        refine gw_get (C := RJ24) (T := TJ24) (N := 3) (v := .ref vr) hx hb hts in_J24 hown hal hRo 0 (by decide) (hts _ q979) (fun _ h9 => h9) rfl dJ24_divideMagnitude_742 ?_
        refine lv_iload hx hb dJ24_divideMagnitude_745 (lv_at hl 13 rfl) ?_
        refine lv_aload hx hb dJ24_divideMagnitude_747 (lv_at hl 7 rfl) ?_
        refine gw_get (C := RJ24) (T := TJ24) (N := 3) (v := .int 0) hx hb hts in_J24 hown hal hRo 2 (by decide) (hts _ q981) (fun _ h9 => h9) rfl dJ24_divideMagnitude_749 ?_
        refine lv_iadd hx hb dJ24_divideMagnitude_752 ?_
        refine g_topi (v := nI j) (ai_add (a := j) (b := 0) (rfl) (rfl)) ?_
        refine lv_iconst (v := 0) hx hb dJ24_divideMagnitude_753 (by decide) ?_
        refine gw_iast (f := (dI g)) hx hb hal hRa hS (by have q9 := hk; unfold adF at q9; have hsz := hS.1; (try dsimp only) <;> omega) j (rfl) (by omega) (by omega) dJ24_divideMagnitude_754 (fun H_15 locs h_new hch hS => ?_)
        have hO := hO.ch hch (by have q9 := hk; unfold adF at q9; omega)
        have hV := hV.ch hch (by have q9 := hk; unfold adF at q9; omega)
        have hRo := hRo.ch hch (by have q9 := hk; unfold adF at q9; omega)
        have hQo := hQo.ch hch (by have q9 := hk; unfold adF at q9; omega)
        have hQa := hQa.ch hch (by have q9 := hk; unfold adF at q9; omega)
        have sz_H_15 := hch.1
        clear hch
        have hRa : gI z true .int H_15 vr (nl + 1) (upd (dI g) j 0) := h_new
        replace hRa : gI z true .int H_15 vr (nl + 1) (dI (dup g j (0 % 4294967296))) := by
          have q := hRa
          rw [show (0 : Int32) = nI 0 from rfl] at q
          rw [dI_put] at q
          exact q
        have bd_16 : ∀ ix, (dup g j (0 % 4294967296)) ix < 4294967296 := dup_lt hg (Nat.mod_lt _ (by decide))
        refine lv_aload_n hx hb dJ24_divideMagnitude_755 rfl (lv_at hl 0 rfl) ?_
        refine lv_aload hx hb dJ24_divideMagnitude_756 (lv_at hl 7 rfl) ?_
        refine gw_get (C := RJ24) (T := TJ24) (N := 3) (v := .ref vr) hx hb hts in_J24 hown hal hRo 0 (by decide) (hts _ q979) (fun _ h9 => h9) rfl dJ24_divideMagnitude_758 ?_
        refine lv_aload hx hb dJ24_divideMagnitude_761 (lv_at hl 6 rfl) ?_
        refine lv_iload hx hb dJ24_divideMagnitude_763 (lv_at hl 14 rfl) ?_
        refine lv_iload hx hb dJ24_divideMagnitude_765 (lv_at hl 5 rfl) ?_
        refine lv_iload hx hb dJ24_divideMagnitude_767 (lv_at hl 13 rfl) ?_
        refine lv_aload hx hb dJ24_divideMagnitude_769 (lv_at hl 7 rfl) ?_
        refine gw_get (C := RJ24) (T := TJ24) (N := 3) (v := .int 0) hx hb hts in_J24 hown hal hRo 2 (by decide) (hts _ q981) (fun _ h9 => h9) rfl dJ24_divideMagnitude_771 ?_
        refine lv_iadd hx hb dJ24_divideMagnitude_774 ?_
        refine g_topi (v := nI j) (ai_add (a := j) (b := 0) (rfl) (rfl)) ?_
        have hsz := hS.1
        refine gcV5_i hCF hwm hl.1 (m_mulsub l z H_15 a vr vd (nl + 1) j m0 qh m0 true wa (dup g j (0 % 4294967296)) e1 va (nI n) 0 hk.vv (by omega) (by omega) (by omega) (Nat.le_refl _) hf1 hgzb he1 hRa hV hO ) (lw_V q1092 q1094 qs8 q85 q1095) ydv_J24_mulsub (hO.recv hal) hS (fun q h => by have q9 := hk; unfold adF at q9; have hsz := hS.1; (try dsimp only at h ⊢) <;> omega) ⟨Nat.le_of_ble_eq_true rfl, Nat.le_of_ble_eq_true rfl⟩ ⟨by first | omega | (dsimp only; omega), by first | omega | (dsimp only; omega)⟩ (Nat.le_of_ble_eq_true rfl) dJ24_divideMagnitude_775 (fun rk H_17 locs hp hex hS => ?_)
        have sz_H_17 : H_15.size ≤ H_17.size := hex.1
        have hO := hO.ex hex (by intro h; have q9 := hk; unfold adF at q9; (try dsimp only at h) <;> omega)
        have hV := hV.ex hex (by intro h; have q9 := hk; unfold adF at q9; (try dsimp only at h) <;> omega)
        have hRo := hRo.ex hex (by intro h; have q9 := hk; unfold adF at q9; (try dsimp only at h) <;> omega)
        have hQo := hQo.ex hex (by intro h; have q9 := hk; unfold adF at q9; (try dsimp only at h) <;> omega)
        have hQa := hQa.ex hex (by intro h; have q9 := hk; unfold adF at q9; (try dsimp only at h) <;> omega)
        clear hRa
        obtain ⟨kk, gg, hkk0, hkk, hgg, hgo, hms, hRa⟩ := hp
        subst hkk0
        rw [hgz] at hms
        have hks := kn_ms hXl hms (seg_lt hgg _ _) hDlt hDpos hf4 hfin
        have lt_vr := hRa.lt
        refine lv_istore hx hb dJ24_divideMagnitude_778 hl (by decide) rfl (fun ls hl => ?_)
        have hl : lv_has ls 28 [(22, .int (nI kk)), (0, .ref a), (1, .ref b), (2, .ref qo), (3, .int 0), (4, .int (nI sh)), (5, .int (nI m0)), (6, .ref vd), (7, .ref ro), (9, .int (nI lim)), (10, .ref vq1), (11, .int (nI (e1 0))), (12, .long (lN (e1 0))), (14, .int (nI (e1 1))), (15, .int (nI j)), (16, .int (nI qh)), (19, .int (nI (g j))), (20, .int (iI (((g j) : Nat) + (-2147483648))))] := hl
        refine lv_iload hx hb dJ24_divideMagnitude_780 (lv_at hl 0 rfl) ?_
        refine lv_ldc (v := -2147483648) hx hb hown (hts _ q1012) dJ24_divideMagnitude_782 ?_
        refine lv_iadd hx hb dJ24_divideMagnitude_784 ?_
        refine g_topi (v := iI ((kk : Nat) + (-2147483648))) (ai_addI (a := (kk : Nat)) (b := (-2147483648)) (nI_iI _) (by decide)) ?_
        refine lv_iload hx hb dJ24_divideMagnitude_785 (lv_at hl 17 rfl) ?_
        refine lv_icmp_le (tgt := 815) hx hb dJ24_divideMagnitude_787 (by decide) (fun c_787 => ?_) (fun c_787 => ?_)
        · skip
          have c_787 := (ai_leI (a := ((kk : Nat) + (-2147483648))) (b := (((g j) : Nat) + (-2147483648))) (rfl) (rfl) (by omega) (by omega) (by omega) (by omega)).mp c_787
          have hks1 := hks.1 (by omega)
          have hqf : qh = seg g j (m0 + 1) / seg e1 0 m0 := hks1.1
          refine lv_aload hx hb dJ24_divideMagnitude_815 (lv_at hl 10 rfl) ?_
          refine lv_iload hx hb dJ24_divideMagnitude_817 (lv_at hl 14 rfl) ?_
          refine lv_iload hx hb dJ24_divideMagnitude_819 (lv_at hl 15 rfl) ?_
          refine gw_iast (f := (dI q1)) hx hb hal hQa hS (by have q9 := hk; unfold adF at q9; have hsz := hS.1; (try dsimp only) <;> omega) j (rfl) (by omega) (by omega) dJ24_divideMagnitude_821 (fun H_18 locs h_new hch hS => ?_)
          have hO := hO.ch hch (by have q9 := hk; unfold adF at q9; omega)
          have hV := hV.ch hch (by have q9 := hk; unfold adF at q9; omega)
          have hRo := hRo.ch hch (by have q9 := hk; unfold adF at q9; omega)
          have hQo := hQo.ch hch (by have q9 := hk; unfold adF at q9; omega)
          have hRa := hRa.ch hch (by have q9 := hk; unfold adF at q9; omega)
          have sz_H_18 := hch.1
          clear hch
          have hQa : gI z true .int H_18 vq1 lim (upd (dI q1) j (nI qh)) := h_new
          replace hQa : gI z true .int H_18 vq1 lim (dI (dup q1 j (qh % 4294967296))) := by
            have q := hQa
            rw [dI_put] at q
            exact q
          have bd_19 : ∀ ix, (dup q1 j (qh % 4294967296)) ix < 4294967296 := dup_lt hq1b (Nat.mod_lt _ (by decide))
          have hou : ∀ i, (i < j + 1 ∨ j + 1 + m0 ≤ i) → gg i = dup g j (0 % 4294967296) i := fun i h => by exact hgo i h
          have hsg : seg gg (j + 1) m0 = seg g j (m0 + 1) % seg e1 0 m0 := hks1.2
          have hst := kn_step (g1 := gg) (q1 := (dup q1 j (qh % 4294967296))) hj hDpos hi2 (fun i h => by rw [hou i (Or.inr h)]; exact dup_n (by omega)) hsg (by rw [dup_s, Nat.mod_eq_of_lt (by omega)]; exact hqf) (fun i h => dup_n (by omega))
          have hu4 : ∀ i, i < j + 1 → gg i = 0 := fun i h => by
            rw [hou i (Or.inl h)]
            rcases Nat.lt_or_ge i j with c | c
            · rw [dup_n (by omega)]; exact hz i c
            · rw [show i = j by omega, dup_s]
          have hu5 : ∀ i, j + 1 ≤ i → i < lim → (dup q1 j (qh % 4294967296)) i = 0 := fun i h1 h2 => by rw [dup_n (by omega)]; exact hq0 i (by omega) h2
          refine lv_iinc (k := 14) (v := (nI (j + 1))) hx hb dJ24_divideMagnitude_822 hl rfl (ai_add (a := j) (b := 1) (rfl) (show Int32.ofInt 1 = nI 1 by decide)) (by decide) rfl (fun ls hl => ?_)
          have hl : lv_has ls 28 [(15, .int (nI (j + 1))), (22, .int (nI kk)), (0, .ref a), (1, .ref b), (2, .ref qo), (3, .int 0), (4, .int (nI sh)), (5, .int (nI m0)), (6, .ref vd), (7, .ref ro), (9, .int (nI lim)), (10, .ref vq1), (11, .int (nI (e1 0))), (12, .long (lN (e1 0))), (14, .int (nI (e1 1))), (16, .int (nI qh)), (19, .int (nI (g j))), (20, .int (iI (((g j) : Nat) + (-2147483648))))] := hl
          refine lv_goto (tgt := 423) hx hb dJ24_divideMagnitude_825 (by decide) ?_
          exact ih_cutA vd ro vr vq1 nl lim sh (j + 1) e1 gg (dup q1 j (qh % 4294967296)) he1 hD2 hDv hsh hnl hk hlim hjl hgg bd_19 hst.2 hst.1 hu4 hu5 (by omega) H_18 _ hS hO hV hRo hRa hQo hQa ls (lv_sub hl [2, 3, 4, 5, 6, 7, 8, 9, 10, 11, 12, 13, 14, 0] rfl)
        · skip
          have c_787 := mt (ai_leI (a := ((kk : Nat) + (-2147483648))) (b := (((g j) : Nat) + (-2147483648))) (rfl) (rfl) (by omega) (by omega) (by omega) (by omega)).mpr c_787
          have hks2 := hks.2 (by omega)
          have hqf : qh - 1 = seg g j (m0 + 1) / seg e1 0 m0 := by rw [hks2.1, Nat.add_sub_cancel]
          refine lv_aload_n hx hb dJ24_divideMagnitude_790 rfl (lv_at hl 1 rfl) ?_
          refine lv_aload hx hb dJ24_divideMagnitude_791 (lv_at hl 7 rfl) ?_
          refine lv_aload hx hb dJ24_divideMagnitude_793 (lv_at hl 8 rfl) ?_
          refine gw_get (C := RJ24) (T := TJ24) (N := 3) (v := .ref vr) hx hb hts in_J24 hown hal hRo 0 (by decide) (hts _ q979) (fun _ h9 => h9) rfl dJ24_divideMagnitude_795 ?_
          refine lv_iload hx hb dJ24_divideMagnitude_798 (lv_at hl 14 rfl) ?_
          refine lv_iconst (v := 1) hx hb dJ24_divideMagnitude_800 (by decide) ?_
          refine lv_iadd hx hb dJ24_divideMagnitude_801 ?_
          refine g_topi (v := nI (j + 1)) (ai_add (a := j) (b := 1) (rfl) (rfl)) ?_
          refine lv_aload hx hb dJ24_divideMagnitude_802 (lv_at hl 8 rfl) ?_
          refine gw_get (C := RJ24) (T := TJ24) (N := 3) (v := .int 0) hx hb hts in_J24 hown hal hRo 2 (by decide) (hts _ q981) (fun _ h9 => h9) rfl dJ24_divideMagnitude_804 ?_
          refine lv_iadd hx hb dJ24_divideMagnitude_807 ?_
          refine g_topi (v := nI (j + 1)) (ai_add (a := (j + 1)) (b := 0) (rfl) (rfl)) ?_
          have hsz := hS.1
          refine gcV3_i hCF hwm hl.1 (m_divadd l z H_17 a vd vr (nl + 1) (j + 1) m0 true wa gg e1 va (nI n) 0 hk.vv (by omega) (by omega) (by omega) hgg he1 hRa hV hO ) (lw_V q1096 q1098 qs9 q85 q1099) ydv_J24_divadd (hO.recv hal) hS (fun q h => by have q9 := hk; unfold adF at q9; have hsz := hS.1; (try dsimp only at h ⊢) <;> omega) ⟨Nat.le_of_ble_eq_true rfl, Nat.le_of_ble_eq_true rfl⟩ ⟨by first | omega | (dsimp only; omega), by first | omega | (dsimp only; omega)⟩ (Nat.le_of_ble_eq_true rfl) dJ24_divideMagnitude_808 (fun rk2 H_20 locs hp hex hS => ?_)
          have sz_H_20 : H_17.size ≤ H_20.size := hex.1
          have hO := hO.ex hex (by intro h; have q9 := hk; unfold adF at q9; (try dsimp only at h) <;> omega)
          have hV := hV.ex hex (by intro h; have q9 := hk; unfold adF at q9; (try dsimp only at h) <;> omega)
          have hRo := hRo.ex hex (by intro h; have q9 := hk; unfold adF at q9; (try dsimp only at h) <;> omega)
          have hQo := hQo.ex hex (by intro h; have q9 := hk; unfold adF at q9; (try dsimp only at h) <;> omega)
          have hQa := hQa.ex hex (by intro h; have q9 := hk; unfold adF at q9; (try dsimp only at h) <;> omega)
          clear hRa
          obtain ⟨k2, g2, hk2, hg2b, hg2o, hg2s, hRa⟩ := hp
          have hadd := kn_add hg2s hk2 hks2.2 (seg_lt hg2b _ _) (Nat.lt_trans (Nat.mod_lt _ hDpos) hDlt)
          have lt_vr := hRa.lt
          refine lv_pop hx hb dJ24_divideMagnitude_811 rfl ?_
          refine lv_iinc (k := 15) (v := (nI (qh - 1))) hx hb dJ24_divideMagnitude_812 hl rfl (ai_sbn (a := qh) (b := 1) (rfl) (show Int32.ofInt (-1) = -nI 1 by decide) (by omega)) (by decide) rfl (fun ls hl => ?_)
          have hl : lv_has ls 28 [(16, .int (nI (qh - 1))), (22, .int (nI kk)), (0, .ref a), (1, .ref b), (2, .ref qo), (3, .int 0), (4, .int (nI sh)), (5, .int (nI m0)), (6, .ref vd), (7, .ref ro), (9, .int (nI lim)), (10, .ref vq1), (11, .int (nI (e1 0))), (12, .long (lN (e1 0))), (14, .int (nI (e1 1))), (15, .int (nI j)), (19, .int (nI (g j))), (20, .int (iI (((g j) : Nat) + (-2147483648))))] := hl
          refine lv_aload hx hb dJ24_divideMagnitude_815 (lv_at hl 11 rfl) ?_
          refine lv_iload hx hb dJ24_divideMagnitude_817 (lv_at hl 15 rfl) ?_
          refine lv_iload hx hb dJ24_divideMagnitude_819 (lv_at hl 0 rfl) ?_
          refine gw_iast (f := (dI q1)) hx hb hal hQa hS (by have q9 := hk; unfold adF at q9; have hsz := hS.1; (try dsimp only) <;> omega) j (rfl) (by omega) (by omega) dJ24_divideMagnitude_821 (fun H_21 locs h_new hch hS => ?_)
          have hO := hO.ch hch (by have q9 := hk; unfold adF at q9; omega)
          have hV := hV.ch hch (by have q9 := hk; unfold adF at q9; omega)
          have hRo := hRo.ch hch (by have q9 := hk; unfold adF at q9; omega)
          have hQo := hQo.ch hch (by have q9 := hk; unfold adF at q9; omega)
          have hRa := hRa.ch hch (by have q9 := hk; unfold adF at q9; omega)
          have sz_H_21 := hch.1
          clear hch
          have hQa : gI z true .int H_21 vq1 lim (upd (dI q1) j (nI (qh - 1))) := h_new
          replace hQa : gI z true .int H_21 vq1 lim (dI (dup q1 j ((qh - 1) % 4294967296))) := by
            have q := hQa
            rw [dI_put] at q
            exact q
          have bd_22 : ∀ ix, (dup q1 j ((qh - 1) % 4294967296)) ix < 4294967296 := dup_lt hq1b (Nat.mod_lt _ (by decide))
          have hou : ∀ i, (i < j + 1 ∨ j + 1 + m0 ≤ i) → g2 i = dup g j (0 % 4294967296) i := fun i h => by rw [hg2o i h]; exact hgo i h
          have hsg : seg g2 (j + 1) m0 = seg g j (m0 + 1) % seg e1 0 m0 := hadd
          have hst := kn_step (g1 := g2) (q1 := (dup q1 j ((qh - 1) % 4294967296))) hj hDpos hi2 (fun i h => by rw [hou i (Or.inr h)]; exact dup_n (by omega)) hsg (by rw [dup_s, Nat.mod_eq_of_lt (by omega)]; exact hqf) (fun i h => dup_n (by omega))
          have hu4 : ∀ i, i < j + 1 → g2 i = 0 := fun i h => by
            rw [hou i (Or.inl h)]
            rcases Nat.lt_or_ge i j with c | c
            · rw [dup_n (by omega)]; exact hz i c
            · rw [show i = j by omega, dup_s]
          have hu5 : ∀ i, j + 1 ≤ i → i < lim → (dup q1 j ((qh - 1) % 4294967296)) i = 0 := fun i h1 h2 => by rw [dup_n (by omega)]; exact hq0 i (by omega) h2
          refine lv_iinc (k := 15) (v := (nI (j + 1))) hx hb dJ24_divideMagnitude_822 hl rfl (ai_add (a := j) (b := 1) (rfl) (show Int32.ofInt 1 = nI 1 by decide)) (by decide) rfl (fun ls hl => ?_)
          have hl : lv_has ls 28 [(15, .int (nI (j + 1))), (16, .int (nI (qh - 1))), (22, .int (nI kk)), (0, .ref a), (1, .ref b), (2, .ref qo), (3, .int 0), (4, .int (nI sh)), (5, .int (nI m0)), (6, .ref vd), (7, .ref ro), (9, .int (nI lim)), (10, .ref vq1), (11, .int (nI (e1 0))), (12, .long (lN (e1 0))), (14, .int (nI (e1 1))), (19, .int (nI (g j))), (20, .int (iI (((g j) : Nat) + (-2147483648))))] := hl
          refine lv_goto (tgt := 423) hx hb dJ24_divideMagnitude_825 (by decide) ?_
          exact ih_cutA vd ro vr vq1 nl lim sh (j + 1) e1 g2 (dup q1 j ((qh - 1) % 4294967296)) he1 hD2 hDv hsh hnl hk hlim hjl hg2b bd_22 hst.2 hst.1 hu4 hu5 (by omega) H_21 _ hS hO hV hRo hRa hQo hQa ls (lv_sub hl [3, 4, 5, 6, 7, 8, 9, 10, 11, 12, 13, 14, 15, 0] rfl)
      have cutB : ∀ (qh qr sk : Nat), (qh < 4294967296) → (qr < 4294967296) → (sk ≤ 1) → (seg g j (m0 + 1) / seg e1 0 m0 ≤ qh) → (sk = 0 → qh * e1 0 + qr = (g j * 4294967296 + g (j + 1))) → (sk = 1 → qh * (e1 0 * 4294967296 + e1 1) ≤ ((g j * 4294967296 + g (j + 1)) * 4294967296 + g (j + 2))) → (qh = 0 → (g j * 4294967296 + g (j + 1)) < e1 0) → (j + 1 < lim) → ∀ (ls : Array Slot), lv_has ls 28 [(0, .ref a), (1, .ref b), (2, .ref qo), (3, .int 0), (4, .int (nI sh)), (5, .int (nI m0)), (6, .ref vd), (7, .ref ro), (9, .int (nI lim)), (10, .ref vq1), (11, .int (nI (e1 0))), (12, .long (lN (e1 0))), (14, .int (nI (e1 1))), (15, .int (nI j)), (16, .int (nI qh)), (17, .int (nI qr)), (18, .int (nI sk)), (19, .int (nI (g j))), (20, .int (iI (((g j) : Nat) + (-2147483648))))] → W p l e { frames := 3, cells := 4, slots := (2 * n + 7), locals := 86 } s m [.ref a, .ref b, .ref qo, .int 0].toArray below meth c H_14 locs 4 (2 * n + 7) (MQ below (gRn (fun q => q = qo ∨ q = vq ∨ H0.size ≤ q) H0 (fun H1 => ∃ v1, (v1 = vq ∨ H0.size ≤ v1) ∧ v1 ≠ qo ∧ mV z H1 qo v1 (n + 2) (seg d 0 n / seg ee 0 m0))) [.ref a, .ref b, .ref qo, .int 0].toArray s 4 (2 * n + 7) (fun q => q = qo ∨ q = vq ∨ H0.size ≤ q)) (F0 m 591 ls []) := by
        intro qh qr sk hc1 hc2 hc3 hc4 hc5 hc6 hc7 hjl ls hl
        refine lv_iload hx hb dJ24_divideMagnitude_591 (lv_at hl 14 rfl) ?_
        refine lv_if_ne (tgt := 599) hx hb dJ24_divideMagnitude_593 (by decide) (fun c_593 => ?_) (fun c_593 => ?_)
        · skip
          have c_593 := mt (ai_eqU (a := qh) (b := 0) (rfl) (rfl) (hc1) (by omega)).mpr c_593
          refine lv_iload hx hb dJ24_divideMagnitude_599 (lv_at hl 16 rfl) ?_
          refine lv_if_ne (tgt := 740) hx hb dJ24_divideMagnitude_601 (by decide) (fun c_601 => ?_) (fun c_601 => ?_)
          · skip
            have c_601 := mt (ai_eq (a := sk) (b := 0) (rfl) (rfl) (by omega) (by omega)).mpr c_601
            have hf1 := hc1
            have hf4 := hc4
            have hf8 := hc6 (by omega)
            exact cutC qh hf1 hf4 hf8 hjl ls (lv_sub hl [0, 1, 2, 3, 4, 5, 6, 7, 8, 9, 10, 11, 12, 13, 14, 17, 18] rfl)
          · skip
            have c_601 := (ai_eq (a := sk) (b := 0) (rfl) (rfl) (by omega) (by omega)).mp c_601
            have hQE : qh * e1 0 + qr = (g j * 4294967296 + g (j + 1)) := hc5 (by omega)
            refine lv_aload hx hb dJ24_divideMagnitude_604 (lv_at hl 7 rfl) ?_
            refine gw_get (C := RJ24) (T := TJ24) (N := 3) (v := .ref vr) hx hb hts in_J24 hown hal hRo 0 (by decide) (hts _ q979) (fun _ h9 => h9) rfl dJ24_divideMagnitude_606 ?_
            refine lv_iload hx hb dJ24_divideMagnitude_609 (lv_at hl 13 rfl) ?_
            refine lv_iconst (v := 2) hx hb dJ24_divideMagnitude_611 (by decide) ?_
            refine lv_iadd hx hb dJ24_divideMagnitude_612 ?_
            refine g_topi (v := nI (j + 2)) (ai_add (a := j) (b := 2) (rfl) (rfl)) ?_
            refine lv_aload hx hb dJ24_divideMagnitude_613 (lv_at hl 7 rfl) ?_
            refine gw_get (C := RJ24) (T := TJ24) (N := 3) (v := .int 0) hx hb hts in_J24 hown hal hRo 2 (by decide) (hts _ q981) (fun _ h9 => h9) rfl dJ24_divideMagnitude_615 ?_
            refine lv_iadd hx hb dJ24_divideMagnitude_618 ?_
            refine g_topi (v := nI (j + 2)) (ai_add (a := (j + 2)) (b := 0) (rfl) (rfl)) ?_
            refine gw_iald hx hb hal hRa (j + 2) (rfl) (by omega) (by omega) dJ24_divideMagnitude_619 ?_
            refine g_topi (v := (nI (g (j + 2)))) rfl ?_
            refine lv_i2l hx hb dJ24_divideMagnitude_620 rfl ?_
            refine lv_ldc2 (v := 4294967295) hx hb hown (hts _ q1035) dJ24_divideMagnitude_621 ?_
            refine lv_land hx hb dJ24_divideMagnitude_624 ?_
            refine g_topl (v := lN (g (j + 2))) (mk32 (a := (g (j + 2))) (rfl) (hg _)) ?_
            refine lv_lstore hx hb dJ24_divideMagnitude_625 hl (by decide) rfl (fun ls hl => ?_)
            have hl : lv_has ls 28 [(22, .long (lN (g (j + 2)))), (0, .ref a), (1, .ref b), (2, .ref qo), (3, .int 0), (4, .int (nI sh)), (5, .int (nI m0)), (6, .ref vd), (7, .ref ro), (9, .int (nI lim)), (10, .ref vq1), (11, .int (nI (e1 0))), (12, .long (lN (e1 0))), (14, .int (nI (e1 1))), (15, .int (nI j)), (16, .int (nI qh)), (17, .int (nI qr)), (18, .int (nI sk)), (19, .int (nI (g j))), (20, .int (iI (((g j) : Nat) + (-2147483648))))] := hl
            refine lv_iload hx hb dJ24_divideMagnitude_627 (lv_at hl 16 rfl) ?_
            refine lv_i2l hx hb dJ24_divideMagnitude_629 rfl ?_
            refine lv_ldc2 (v := 4294967295) hx hb hown (hts _ q1035) dJ24_divideMagnitude_630 ?_
            refine lv_land hx hb dJ24_divideMagnitude_633 ?_
            refine g_topl (v := lN qr) (mk32 (a := qr) (rfl) (by omega)) ?_
            refine lv_bipush (v := 32) hx hb dJ24_divideMagnitude_634 (by decide) ?_
            refine lv_lshl hx hb dJ24_divideMagnitude_636 rfl ?_
            refine g_topl (v := lN (qr * 4294967296)) (lN_shl32 (a := qr)) ?_
            refine lv_lload hx hb dJ24_divideMagnitude_637 (lv_at hl 0 rfl) ?_
            refine lv_lor hx hb dJ24_divideMagnitude_639 ?_
            refine g_topl (v := (lN (qr * 4294967296 + g (j + 2)))) (lN_or hg2 hc2) ?_
            refine lv_lstore hx hb dJ24_divideMagnitude_640 hl (by decide) rfl (fun ls hl => ?_)
            have hl : lv_has ls 28 [(24, .long (lN (qr * 4294967296 + g (j + 2)))), (22, .long (lN (g (j + 2)))), (0, .ref a), (1, .ref b), (2, .ref qo), (3, .int 0), (4, .int (nI sh)), (5, .int (nI m0)), (6, .ref vd), (7, .ref ro), (9, .int (nI lim)), (10, .ref vq1), (11, .int (nI (e1 0))), (12, .long (lN (e1 0))), (14, .int (nI (e1 1))), (15, .int (nI j)), (16, .int (nI qh)), (17, .int (nI qr)), (18, .int (nI sk)), (19, .int (nI (g j))), (20, .int (iI (((g j) : Nat) + (-2147483648))))] := hl
            refine lv_iload hx hb dJ24_divideMagnitude_642 (lv_at hl 14 rfl) ?_
            refine lv_i2l hx hb dJ24_divideMagnitude_644 rfl ?_
            refine lv_ldc2 (v := 4294967295) hx hb hown (hts _ q1035) dJ24_divideMagnitude_645 ?_
            refine lv_land hx hb dJ24_divideMagnitude_648 ?_
            refine g_topl (v := lN (e1 1)) (mk32 (a := (e1 1)) (rfl) (he1 _)) ?_
            refine lv_iload hx hb dJ24_divideMagnitude_649 (lv_at hl 16 rfl) ?_
            refine lv_i2l hx hb dJ24_divideMagnitude_651 rfl ?_
            refine lv_ldc2 (v := 4294967295) hx hb hown (hts _ q1035) dJ24_divideMagnitude_652 ?_
            refine lv_land hx hb dJ24_divideMagnitude_655 ?_
            refine g_topl (v := lN qh) (mk32 (a := qh) (rfl) (hc1)) ?_
            refine lv_lmul hx hb dJ24_divideMagnitude_656 ?_
            refine g_topl (v := lN ((e1 1) * qh)) (ai_mulL (a := (e1 1)) (b := qh) (rfl) (rfl)) ?_
            refine lv_lstore hx hb dJ24_divideMagnitude_657 hl (by decide) rfl (fun ls hl => ?_)
            have hl : lv_has ls 28 [(26, .long (lN ((e1 1) * qh))), (24, .long (lN (qr * 4294967296 + g (j + 2)))), (22, .long (lN (g (j + 2)))), (0, .ref a), (1, .ref b), (2, .ref qo), (3, .int 0), (4, .int (nI sh)), (5, .int (nI m0)), (6, .ref vd), (7, .ref ro), (9, .int (nI lim)), (10, .ref vq1), (11, .int (nI (e1 0))), (12, .long (lN (e1 0))), (14, .int (nI (e1 1))), (15, .int (nI j)), (16, .int (nI qh)), (17, .int (nI qr)), (18, .int (nI sk)), (19, .int (nI (g j))), (20, .int (iI (((g j) : Nat) + (-2147483648))))] := hl
            refine lv_aload_n hx hb dJ24_divideMagnitude_659 rfl (lv_at hl 3 rfl) ?_
            refine lv_lload hx hb dJ24_divideMagnitude_660 (lv_at hl 0 rfl) ?_
            refine lv_lload hx hb dJ24_divideMagnitude_662 (lv_at hl 1 rfl) ?_
            refine gcV2_iP hCF hwm hl.1 (m_uCmp l z H_14 a (e1 1 * qh) (qr * 4294967296 + g (j + 2)) (kn_u he11 hc1) (kn_v hc2 hg2) ) (lw_V q1087 q1089 qs7 q85 q1090) ydv_J24_unsignedLongCompare (hO.recv hal) ⟨Nat.le_of_ble_eq_true rfl, Nat.le_of_ble_eq_true rfl⟩ ⟨by first | omega | (dsimp only; omega), by first | omega | (dsimp only; omega)⟩ (Nat.le_of_ble_eq_true rfl) dJ24_divideMagnitude_664 (fun r_23 hp => ?_)
            subst hp
            refine lv_if_eq (tgt := 740) hx hb dJ24_divideMagnitude_667 (by decide) (fun c_667 => ?_) (fun c_667 => ?_)
            · skip
              have c_667 := gb_0.mp c_667
              have hle1 := of_decide_eq_false c_667
              have hf1 := hc1
              have hf4 := hc4
              have hf8 := kn_ok (nl := g (j + 2)) hQE (Nat.le_of_not_lt hle1)
              exact cutC qh hf1 hf4 hf8 hjl ls (lv_sub hl [3, 4, 5, 6, 7, 8, 9, 10, 11, 12, 13, 14, 15, 16, 17, 20, 21] rfl)
            · skip
              have c_667 := gb_n0 c_667
              have hgt1 := of_decide_eq_true (by simpa using c_667)
              have hf4 := kn_over hDs hXs hx0 (kn_gt (nl := g (j + 2)) hQE hgt1) hDpos
              have hqp : 0 < qh := Nat.pos_of_ne_zero fun q => absurd hgt1 (by rw [q, Nat.mul_zero]; exact Nat.not_lt_zero _)
              have hqm : e1 1 * (qh - 1) = e1 1 * qh - e1 1 := by rw [Nat.mul_sub, Nat.mul_one]
              have hqs := Nat.le_mul_of_pos_right (e1 1) hqp
              have hQE2 := kn_e1 hQE hqp
              have hf1 : qh - 1 < 4294967296 := Nat.lt_of_le_of_lt (Nat.sub_le _ _) hc1
              refine lv_iinc (k := 17) (v := (nI (qh - 1))) hx hb dJ24_divideMagnitude_670 hl rfl (ai_sbn (a := qh) (b := 1) rfl (show Int32.ofInt (-1) = -nI 1 by decide) hqp) (by decide) rfl (fun ls hl => ?_)
              have hl : lv_has ls 28 [(16, .int (nI (qh - 1))), (26, .long (lN ((e1 1) * qh))), (24, .long (lN (qr * 4294967296 + g (j + 2)))), (22, .long (lN (g (j + 2)))), (0, .ref a), (1, .ref b), (2, .ref qo), (3, .int 0), (4, .int (nI sh)), (5, .int (nI m0)), (6, .ref vd), (7, .ref ro), (9, .int (nI lim)), (10, .ref vq1), (11, .int (nI (e1 0))), (12, .long (lN (e1 0))), (14, .int (nI (e1 1))), (15, .int (nI j)), (17, .int (nI qr)), (18, .int (nI sk)), (19, .int (nI (g j))), (20, .int (iI (((g j) : Nat) + (-2147483648))))] := hl
              refine lv_iload hx hb dJ24_divideMagnitude_673 (lv_at hl 18 rfl) ?_
              refine lv_i2l hx hb dJ24_divideMagnitude_675 rfl ?_
              refine lv_ldc2 (v := 4294967295) hx hb hown (hts _ q1035) dJ24_divideMagnitude_676 ?_
              refine lv_land hx hb dJ24_divideMagnitude_679 ?_
              refine g_topl (v := lN qr) (mk32 (a := qr) (rfl) (by omega)) ?_
              refine lv_lload hx hb dJ24_divideMagnitude_680 (lv_at hl 15 rfl) ?_
              refine lv_ladd hx hb dJ24_divideMagnitude_682 ?_
              refine g_topl (v := lN (qr + (e1 0))) (ai_addL (a := qr) (b := (e1 0)) (rfl) (rfl)) ?_
              refine lv_l2i hx hb dJ24_divideMagnitude_683 rfl ?_
              refine g_topi (v := (nI ((qr + e1 0) % 4294967296))) ((ai_l2i (a := qr + e1 0) rfl).trans (nI_mod _).symm) ?_
              refine lv_istore hx hb dJ24_divideMagnitude_684 hl (by decide) rfl (fun ls hl => ?_)
              have hl : lv_has ls 28 [(17, .int (nI ((qr + e1 0) % 4294967296))), (16, .int (nI (qh - 1))), (26, .long (lN ((e1 1) * qh))), (24, .long (lN (qr * 4294967296 + g (j + 2)))), (22, .long (lN (g (j + 2)))), (0, .ref a), (1, .ref b), (2, .ref qo), (3, .int 0), (4, .int (nI sh)), (5, .int (nI m0)), (6, .ref vd), (7, .ref ro), (9, .int (nI lim)), (10, .ref vq1), (11, .int (nI (e1 0))), (12, .long (lN (e1 0))), (14, .int (nI (e1 1))), (15, .int (nI j)), (18, .int (nI sk)), (19, .int (nI (g j))), (20, .int (iI (((g j) : Nat) + (-2147483648))))] := hl
              refine lv_iload hx hb dJ24_divideMagnitude_686 (lv_at hl 0 rfl) ?_
              refine lv_i2l hx hb dJ24_divideMagnitude_688 rfl ?_
              refine lv_ldc2 (v := 4294967295) hx hb hown (hts _ q1035) dJ24_divideMagnitude_689 ?_
              refine lv_land hx hb dJ24_divideMagnitude_692 ?_
              refine g_topl (v := lN ((qr + e1 0) % 4294967296)) (mk32 (a := ((qr + e1 0) % 4294967296)) (rfl) (Nat.mod_lt _ (by decide))) ?_
              refine lv_lload hx hb dJ24_divideMagnitude_693 (lv_at hl 16 rfl) ?_
              refine W.lcmp hx hb dJ24_divideMagnitude_695 ?_
              refine lv_if_lt (tgt := 740) hx hb dJ24_divideMagnitude_696 (by decide) (fun c_696 => ?_) (fun c_696 => ?_)
              · skip
                have c_696 := (ai_clt (a := (((qr + e1 0) % 4294967296) : Nat)) (b := ((e1 0) : Nat)) (lN_lI _) (lN_lI _) (by omega) (by omega) (by omega) (by omega)).mp c_696
                have hf8 := kn_ov (nl := g (j + 2)) hQE2 (kn_c1 hc2 he10 c_696) hf1 he11
                exact cutC (qh - 1) hf1 hf4 hf8 hjl ls (lv_sub hl [5, 6, 7, 8, 9, 10, 11, 12, 13, 14, 15, 16, 17, 18, 1, 20, 21] rfl)
              · skip
                have c_696 := mt (ai_clt (a := (((qr + e1 0) % 4294967296) : Nat)) (b := ((e1 0) : Nat)) (lN_lI _) (lN_lI _) (by omega) (by omega) (by omega) (by omega)).mpr c_696
                have hrm := kn_c2 hc2 he10 c_696
                refine lv_lload hx hb dJ24_divideMagnitude_699 (lv_at hl 2 rfl) ?_
                refine lv_iload hx hb dJ24_divideMagnitude_701 (lv_at hl 17 rfl) ?_
                refine lv_i2l hx hb dJ24_divideMagnitude_703 rfl ?_
                refine lv_ldc2 (v := 4294967295) hx hb hown (hts _ q1035) dJ24_divideMagnitude_704 ?_
                refine lv_land hx hb dJ24_divideMagnitude_707 ?_
                refine g_topl (v := lN (e1 1)) (mk32 (a := (e1 1)) (rfl) (he1 _)) ?_
                refine lv_lsub hx hb dJ24_divideMagnitude_708 ?_
                refine g_topl (v := lN (((e1 1) * qh) - (e1 1))) (ai_subL (a := ((e1 1) * qh)) (b := (e1 1)) (rfl) (rfl) (hqs)) ?_
                refine lv_lstore hx hb dJ24_divideMagnitude_709 hl (by decide) rfl (fun ls hl => ?_)
                have hl : lv_has ls 28 [(26, .long (lN (((e1 1) * qh) - (e1 1)))), (17, .int (nI ((qr + e1 0) % 4294967296))), (16, .int (nI (qh - 1))), (24, .long (lN (qr * 4294967296 + g (j + 2)))), (22, .long (lN (g (j + 2)))), (0, .ref a), (1, .ref b), (2, .ref qo), (3, .int 0), (4, .int (nI sh)), (5, .int (nI m0)), (6, .ref vd), (7, .ref ro), (9, .int (nI lim)), (10, .ref vq1), (11, .int (nI (e1 0))), (12, .long (lN (e1 0))), (14, .int (nI (e1 1))), (15, .int (nI j)), (18, .int (nI sk)), (19, .int (nI (g j))), (20, .int (iI (((g j) : Nat) + (-2147483648))))] := hl
                refine lv_iload hx hb dJ24_divideMagnitude_711 (lv_at hl 1 rfl) ?_
                refine lv_i2l hx hb dJ24_divideMagnitude_713 rfl ?_
                refine lv_ldc2 (v := 4294967295) hx hb hown (hts _ q1035) dJ24_divideMagnitude_714 ?_
                refine lv_land hx hb dJ24_divideMagnitude_717 ?_
                refine g_topl (v := lN ((qr + e1 0) % 4294967296)) (mk32 (a := ((qr + e1 0) % 4294967296)) (rfl) (Nat.mod_lt _ (by decide))) ?_
                refine lv_bipush (v := 32) hx hb dJ24_divideMagnitude_718 (by decide) ?_
                refine lv_lshl hx hb dJ24_divideMagnitude_720 rfl ?_
                refine g_topl (v := lN (((qr + e1 0) % 4294967296) * 4294967296)) (lN_shl32 (a := ((qr + e1 0) % 4294967296))) ?_
                refine lv_lload hx hb dJ24_divideMagnitude_721 (lv_at hl 4 rfl) ?_
                refine lv_lor hx hb dJ24_divideMagnitude_723 ?_
                refine g_topl (v := (lN ((qr + e1 0) % 4294967296 * 4294967296 + g (j + 2)))) (lN_or hg2 (Nat.mod_lt _ (by decide))) ?_
                refine lv_lstore hx hb dJ24_divideMagnitude_724 hl (by decide) rfl (fun ls hl => ?_)
                have hl : lv_has ls 28 [(24, .long (lN ((qr + e1 0) % 4294967296 * 4294967296 + g (j + 2)))), (26, .long (lN (((e1 1) * qh) - (e1 1)))), (17, .int (nI ((qr + e1 0) % 4294967296))), (16, .int (nI (qh - 1))), (22, .long (lN (g (j + 2)))), (0, .ref a), (1, .ref b), (2, .ref qo), (3, .int 0), (4, .int (nI sh)), (5, .int (nI m0)), (6, .ref vd), (7, .ref ro), (9, .int (nI lim)), (10, .ref vq1), (11, .int (nI (e1 0))), (12, .long (lN (e1 0))), (14, .int (nI (e1 1))), (15, .int (nI j)), (18, .int (nI sk)), (19, .int (nI (g j))), (20, .int (iI (((g j) : Nat) + (-2147483648))))] := hl
                refine lv_aload_n hx hb dJ24_divideMagnitude_726 rfl (lv_at hl 5 rfl) ?_
                refine lv_lload hx hb dJ24_divideMagnitude_727 (lv_at hl 1 rfl) ?_
                refine lv_lload hx hb dJ24_divideMagnitude_729 (lv_at hl 0 rfl) ?_
                refine gcV2_iP hCF hwm hl.1 (m_uCmp l z H_14 a (e1 1 * qh - e1 1) ((qr + e1 0) % 4294967296 * 4294967296 + g (j + 2)) (Nat.lt_of_le_of_lt (Nat.sub_le _ _) (kn_u he11 hc1)) (kn_v (Nat.mod_lt _ (by decide)) hg2) ) (lw_V q1087 q1089 qs7 q85 q1090) ydv_J24_unsignedLongCompare (hO.recv hal) ⟨Nat.le_of_ble_eq_true rfl, Nat.le_of_ble_eq_true rfl⟩ ⟨by first | omega | (dsimp only; omega), by first | omega | (dsimp only; omega)⟩ (Nat.le_of_ble_eq_true rfl) dJ24_divideMagnitude_731 (fun r_24 hp => ?_)
                subst hp
                refine lv_if_eq (tgt := 740) hx hb dJ24_divideMagnitude_734 (by decide) (fun c_734 => ?_) (fun c_734 => ?_)
                · skip
                  have c_734 := gb_0.mp c_734
                  have hle2 := of_decide_eq_false c_734
                  rw [hrm] at hle2
                  have hf8 := kn_ok (nl := g (j + 2)) hQE2 (by rw [hqm]; exact Nat.le_of_not_lt hle2)
                  exact cutC (qh - 1) hf1 hf4 hf8 hjl ls (lv_sub hl [5, 6, 7, 8, 9, 10, 11, 12, 13, 14, 15, 16, 17, 18, 3, 20, 21] rfl)
                · skip
                  have c_734 := gb_n0 c_734
                  have hgt2 := of_decide_eq_true (by simpa using c_734)
                  rw [hrm] at hgt2
                  have htwo := kn_two hgt2
                  replace hf4 := kn_over hDs hXs hx0 (kn_gt (nl := g (j + 2)) hQE2 (by rw [hqm]; exact hgt2)) hDpos
                  replace hf1 : qh - 1 - 1 < 4294967296 := Nat.lt_of_le_of_lt (Nat.sub_le _ _) hf1
                  have hf8 := kn_ov (nl := g (j + 2)) (kn_e1 hQE2 (show 0 < qh - 1 by clear hDs hXs hd0 hx0 hDpos hXB hi2 hf4; omega)) (kn_rr hD2 (Nat.le_add_left _ _)) hf1 he11
                  refine lv_iinc (k := 3) (v := (nI (qh - 1 - 1))) hx hb dJ24_divideMagnitude_737 hl rfl (ai_sbn (a := qh - 1) (b := 1) rfl (show Int32.ofInt (-1) = -nI 1 by decide) (Nat.le_sub_of_add_le htwo)) (by decide) rfl (fun ls hl => ?_)
                  have hl : lv_has ls 28 [(16, .int (nI (qh - 1 - 1))), (24, .long (lN ((qr + e1 0) % 4294967296 * 4294967296 + g (j + 2)))), (26, .long (lN (((e1 1) * qh) - (e1 1)))), (17, .int (nI ((qr + e1 0) % 4294967296))), (22, .long (lN (g (j + 2)))), (0, .ref a), (1, .ref b), (2, .ref qo), (3, .int 0), (4, .int (nI sh)), (5, .int (nI m0)), (6, .ref vd), (7, .ref ro), (9, .int (nI lim)), (10, .ref vq1), (11, .int (nI (e1 0))), (12, .long (lN (e1 0))), (14, .int (nI (e1 1))), (15, .int (nI j)), (18, .int (nI sk)), (19, .int (nI (g j))), (20, .int (iI (((g j) : Nat) + (-2147483648))))] := hl
                  exact cutC (qh - 1 - 1) hf1 hf4 hf8 hjl ls (lv_sub hl [5, 6, 7, 8, 9, 10, 11, 12, 13, 14, 15, 16, 17, 18, 0, 20, 21] rfl)
        · skip
          have c_593 := (ai_eqU (a := qh) (b := 0) (rfl) (rfl) (hc1) (by omega)).mp c_593
          have hzr := kn_zero hg he1 hm2 (hc7 c_593)
          have hXz : seg g j (m0 + 1) / seg e1 0 m0 = 0 := Nat.div_eq_of_lt hzr.2.1
          have hst := kn_step (g1 := g) (q1 := q1) hj hDpos hi2 (fun i _ => rfl) (by rw [← hzr.2.2, Nat.mod_eq_of_lt hzr.2.1]) (by rw [hXz]; exact hq0 j (Nat.le_refl _) hj) (fun i _ => rfl)
          have hu4 : ∀ i, i < j + 1 → g i = 0 := fun i h => by rcases Nat.lt_or_ge i j with c | c; exact hz i c; rw [show i = j by omega]; exact hzr.1
          have hu5 : ∀ i, j + 1 ≤ i → i < lim → q1 i = 0 := fun i h1 h2 => hq0 i (by omega) h2
          refine lv_goto (tgt := 822) hx hb dJ24_divideMagnitude_596 (by decide) ?_
          refine lv_iinc (k := 13) (v := (nI (j + 1))) hx hb dJ24_divideMagnitude_822 hl rfl (ai_add (a := j) (b := 1) (rfl) (show Int32.ofInt 1 = nI 1 by decide)) (by decide) rfl (fun ls hl => ?_)
          have hl : lv_has ls 28 [(15, .int (nI (j + 1))), (0, .ref a), (1, .ref b), (2, .ref qo), (3, .int 0), (4, .int (nI sh)), (5, .int (nI m0)), (6, .ref vd), (7, .ref ro), (9, .int (nI lim)), (10, .ref vq1), (11, .int (nI (e1 0))), (12, .long (lN (e1 0))), (14, .int (nI (e1 1))), (16, .int (nI qh)), (17, .int (nI qr)), (18, .int (nI sk)), (19, .int (nI (g j))), (20, .int (iI (((g j) : Nat) + (-2147483648))))] := hl
          refine lv_goto (tgt := 423) hx hb dJ24_divideMagnitude_825 (by decide) ?_
          exact ih_cutA vd ro vr vq1 nl lim sh (j + 1) e1 g q1 he1 hD2 hDv hsh hnl hk hlim hjl hg hq1b hst.2 hst.1 hu4 hu5 (by omega) H_14 _ hS hO hV hRo hRa hQo hQa ls (lv_sub hl [1, 2, 3, 4, 5, 6, 7, 8, 9, 10, 11, 12, 13, 0] rfl)
      refine lv_iload hx hb dJ24_divideMagnitude_423 (lv_at hl 13 rfl) ?_
      refine lv_iload hx hb dJ24_divideMagnitude_425 (lv_at hl 8 rfl) ?_
      refine lv_iconst (v := 1) hx hb dJ24_divideMagnitude_427 (by decide) ?_
      refine lv_isub hx hb dJ24_divideMagnitude_428 ?_
      refine g_topi (v := nI (lim - 1)) (ai_sub (a := lim) (b := 1) (rfl) (rfl) (by omega)) ?_
      refine lv_icmp_ge (tgt := 828) hx hb dJ24_divideMagnitude_429 (by decide) (fun c_429 => ?_) (fun c_429 => ?_)
      · skip
        have c_429 := (ai_le (a := (lim - 1)) (b := j) (rfl) (rfl) (by omega) (by omega)).mp c_429
        obtain rfl : lim = j + 1 := by omega
        exact cutL vd ro vr vq1 nl sh j e1 g q1 he1 hD2 hDv hsh hnl hk hlim (by omega) hg hq1b hi1 hi2 hz hq0 H_14 _ hS hO hV hRo hRa hQo hQa ls (lv_sub hl [0, 1, 2, 3, 4, 5, 6, 7, 8, 9, 10, 11, 12] rfl)
      · skip
        have c_429 := mt (ai_le (a := (lim - 1)) (b := j) (rfl) (rfl) (by omega) (by omega)).mpr c_429
        have hjl : j + 1 < lim := by omega
        refine lv_iconst (v := 0) hx hb dJ24_divideMagnitude_432 (by decide) ?_
        refine lv_istore hx hb dJ24_divideMagnitude_433 hl (by decide) rfl (fun ls hl => ?_)
        have hl : lv_has ls 28 [(16, .int 0), (0, .ref a), (1, .ref b), (2, .ref qo), (3, .int 0), (4, .int (nI sh)), (5, .int (nI m0)), (6, .ref vd), (7, .ref ro), (9, .int (nI lim)), (10, .ref vq1), (11, .int (nI (e1 0))), (12, .long (lN (e1 0))), (14, .int (nI (e1 1))), (15, .int (nI j))] := hl
        refine lv_iconst (v := 0) hx hb dJ24_divideMagnitude_435 (by decide) ?_
        refine lv_istore hx hb dJ24_divideMagnitude_436 hl (by decide) rfl (fun ls hl => ?_)
        have hl : lv_has ls 28 [(17, .int 0), (16, .int 0), (0, .ref a), (1, .ref b), (2, .ref qo), (3, .int 0), (4, .int (nI sh)), (5, .int (nI m0)), (6, .ref vd), (7, .ref ro), (9, .int (nI lim)), (10, .ref vq1), (11, .int (nI (e1 0))), (12, .long (lN (e1 0))), (14, .int (nI (e1 1))), (15, .int (nI j))] := hl
        refine lv_iconst (v := 0) hx hb dJ24_divideMagnitude_438 (by decide) ?_
        refine lv_istore hx hb dJ24_divideMagnitude_439 hl (by decide) rfl (fun ls hl => ?_)
        have hl : lv_has ls 28 [(18, .int 0), (17, .int 0), (16, .int 0), (0, .ref a), (1, .ref b), (2, .ref qo), (3, .int 0), (4, .int (nI sh)), (5, .int (nI m0)), (6, .ref vd), (7, .ref ro), (9, .int (nI lim)), (10, .ref vq1), (11, .int (nI (e1 0))), (12, .long (lN (e1 0))), (14, .int (nI (e1 1))), (15, .int (nI j))] := hl
        refine lv_aload hx hb dJ24_divideMagnitude_441 (lv_at hl 10 rfl) ?_
        refine gw_get (C := RJ24) (T := TJ24) (N := 3) (v := .ref vr) hx hb hts in_J24 hown hal hRo 0 (by decide) (hts _ q979) (fun _ h9 => h9) rfl dJ24_divideMagnitude_443 ?_
        refine lv_iload hx hb dJ24_divideMagnitude_446 (lv_at hl 16 rfl) ?_
        refine lv_aload hx hb dJ24_divideMagnitude_448 (lv_at hl 10 rfl) ?_
        refine gw_get (C := RJ24) (T := TJ24) (N := 3) (v := .int 0) hx hb hts in_J24 hown hal hRo 2 (by decide) (hts _ q981) (fun _ h9 => h9) rfl dJ24_divideMagnitude_450 ?_
        refine lv_iadd hx hb dJ24_divideMagnitude_453 ?_
        refine g_topi (v := nI j) (ai_add (a := j) (b := 0) (rfl) (rfl)) ?_
        refine gw_iald hx hb hal hRa j (rfl) (by omega) (by omega) dJ24_divideMagnitude_454 ?_
        refine g_topi (v := (nI (g j))) rfl ?_
        refine lv_istore hx hb dJ24_divideMagnitude_455 hl (by decide) rfl (fun ls hl => ?_)
        have hl : lv_has ls 28 [(19, .int (nI (g j))), (18, .int 0), (17, .int 0), (16, .int 0), (0, .ref a), (1, .ref b), (2, .ref qo), (3, .int 0), (4, .int (nI sh)), (5, .int (nI m0)), (6, .ref vd), (7, .ref ro), (9, .int (nI lim)), (10, .ref vq1), (11, .int (nI (e1 0))), (12, .long (lN (e1 0))), (14, .int (nI (e1 1))), (15, .int (nI j))] := hl
        refine lv_iload hx hb dJ24_divideMagnitude_457 (lv_at hl 0 rfl) ?_
        refine lv_ldc (v := -2147483648) hx hb hown (hts _ q1012) dJ24_divideMagnitude_459 ?_
        refine lv_iadd hx hb dJ24_divideMagnitude_461 ?_
        refine g_topi (v := iI (((g j) : Nat) + (-2147483648))) (ai_addI (a := ((g j) : Nat)) (b := (-2147483648)) (nI_iI _) (by decide)) ?_
        refine lv_istore hx hb dJ24_divideMagnitude_462 hl (by decide) rfl (fun ls hl => ?_)
        have hl : lv_has ls 28 [(20, .int (iI (((g j) : Nat) + (-2147483648)))), (19, .int (nI (g j))), (18, .int 0), (17, .int 0), (16, .int 0), (0, .ref a), (1, .ref b), (2, .ref qo), (3, .int 0), (4, .int (nI sh)), (5, .int (nI m0)), (6, .ref vd), (7, .ref ro), (9, .int (nI lim)), (10, .ref vq1), (11, .int (nI (e1 0))), (12, .long (lN (e1 0))), (14, .int (nI (e1 1))), (15, .int (nI j))] := hl
        refine lv_aload hx hb dJ24_divideMagnitude_464 (lv_at hl 12 rfl) ?_
        refine gw_get (C := RJ24) (T := TJ24) (N := 3) (v := .ref vr) hx hb hts in_J24 hown hal hRo 0 (by decide) (hts _ q979) (fun _ h9 => h9) rfl dJ24_divideMagnitude_466 ?_
        refine lv_iload hx hb dJ24_divideMagnitude_469 (lv_at hl 18 rfl) ?_
        refine lv_iconst (v := 1) hx hb dJ24_divideMagnitude_471 (by decide) ?_
        refine lv_iadd hx hb dJ24_divideMagnitude_472 ?_
        refine g_topi (v := nI (j + 1)) (ai_add (a := j) (b := 1) (rfl) (rfl)) ?_
        refine lv_aload hx hb dJ24_divideMagnitude_473 (lv_at hl 12 rfl) ?_
        refine gw_get (C := RJ24) (T := TJ24) (N := 3) (v := .int 0) hx hb hts in_J24 hown hal hRo 2 (by decide) (hts _ q981) (fun _ h9 => h9) rfl dJ24_divideMagnitude_475 ?_
        refine lv_iadd hx hb dJ24_divideMagnitude_478 ?_
        refine g_topi (v := nI (j + 1)) (ai_add (a := (j + 1)) (b := 0) (rfl) (rfl)) ?_
        refine gw_iald hx hb hal hRa (j + 1) (rfl) (by omega) (by omega) dJ24_divideMagnitude_479 ?_
        refine g_topi (v := (nI (g (j + 1)))) rfl ?_
        refine lv_istore hx hb dJ24_divideMagnitude_480 hl (by decide) rfl (fun ls hl => ?_)
        have hl : lv_has ls 28 [(21, .int (nI (g (j + 1)))), (20, .int (iI (((g j) : Nat) + (-2147483648)))), (19, .int (nI (g j))), (18, .int 0), (17, .int 0), (16, .int 0), (0, .ref a), (1, .ref b), (2, .ref qo), (3, .int 0), (4, .int (nI sh)), (5, .int (nI m0)), (6, .ref vd), (7, .ref ro), (9, .int (nI lim)), (10, .ref vq1), (11, .int (nI (e1 0))), (12, .long (lN (e1 0))), (14, .int (nI (e1 1))), (15, .int (nI j))] := hl
        refine lv_iload hx hb dJ24_divideMagnitude_482 (lv_at hl 2 rfl) ?_
        refine lv_iload hx hb dJ24_divideMagnitude_484 (lv_at hl 16 rfl) ?_
        refine lv_icmp_ne (tgt := 519) hx hb dJ24_divideMagnitude_486 (by decide) (fun c_486 => ?_) (fun c_486 => ?_)
        · skip
          have c_486 := mt (ai_eqU (a := (g j)) (b := (e1 0)) (rfl) (rfl) (hg _) (he1 _)).mpr c_486
          have hnh2 : g j < e1 0 := by omega
          have hq9 := dow_q hnh2 hg1
          have hq8 := Nat.div_add_mod (g j * 4294967296 + g (j + 1)) (e1 0)
          have hq7 := Nat.mod_lt (g j * 4294967296 + g (j + 1)) (show 0 < e1 0 by omega)
          have hb1 : (g j * 4294967296 + g (j + 1)) / e1 0 < 4294967296 := hq9
          have hb2 : (g j * 4294967296 + g (j + 1)) % e1 0 < 4294967296 := Nat.lt_trans hq7 he10
          have hb4 := kn_b hDs hXs hx0 hg2 (show 0 < e1 0 by omega) hDpos
          have hb5 : 0 = 0 → (g j * 4294967296 + g (j + 1)) / e1 0 * e1 0 + (g j * 4294967296 + g (j + 1)) % e1 0 = (g j * 4294967296 + g (j + 1)) := fun _ => by rw [Nat.mul_comm]; exact hq8
          have hb6 : 0 = 1 → (g j * 4294967296 + g (j + 1)) / e1 0 * (e1 0 * 4294967296 + e1 1) ≤ ((g j * 4294967296 + g (j + 1)) * 4294967296 + g (j + 2)) := fun q => by cases q
          have hb7 : (g j * 4294967296 + g (j + 1)) / e1 0 = 0 → (g j * 4294967296 + g (j + 1)) < e1 0 := fun q => by rw [q, Nat.mul_zero] at hq8; omega
          refine lv_iload hx hb dJ24_divideMagnitude_519 (lv_at hl 2 rfl) ?_
          refine lv_i2l hx hb dJ24_divideMagnitude_521 rfl ?_
          refine lv_bipush (v := 32) hx hb dJ24_divideMagnitude_522 (by decide) ?_
          refine lv_lshl hx hb dJ24_divideMagnitude_524 rfl ?_
          refine g_topl (v := (lN (g j * 4294967296))) (i2l_shl hg0) ?_
          refine lv_iload hx hb dJ24_divideMagnitude_525 (lv_at hl 0 rfl) ?_
          refine lv_i2l hx hb dJ24_divideMagnitude_527 rfl ?_
          refine lv_ldc2 (v := 4294967295) hx hb hown (hts _ q1035) dJ24_divideMagnitude_528 ?_
          refine lv_land hx hb dJ24_divideMagnitude_531 ?_
          refine g_topl (v := lN (g (j + 1))) (mk32 (a := (g (j + 1))) (rfl) (hg _)) ?_
          refine lv_lor hx hb dJ24_divideMagnitude_532 ?_
          refine g_topl (v := (lN (g j * 4294967296 + g (j + 1)))) (lN_or hg1 hg0) ?_
          refine lv_lstore hx hb dJ24_divideMagnitude_533 hl (by decide) rfl (fun ls hl => ?_)
          have hl : lv_has ls 28 [(22, .long (lN (g j * 4294967296 + g (j + 1)))), (21, .int (nI (g (j + 1)))), (20, .int (iI (((g j) : Nat) + (-2147483648)))), (19, .int (nI (g j))), (18, .int 0), (17, .int 0), (16, .int 0), (0, .ref a), (1, .ref b), (2, .ref qo), (3, .int 0), (4, .int (nI sh)), (5, .int (nI m0)), (6, .ref vd), (7, .ref ro), (9, .int (nI lim)), (10, .ref vq1), (11, .int (nI (e1 0))), (12, .long (lN (e1 0))), (14, .int (nI (e1 1))), (15, .int (nI j))] := hl
          refine lv_lload hx hb dJ24_divideMagnitude_535 (lv_at hl 0 rfl) ?_
          refine lv_lconst (v := 0) hx hb dJ24_divideMagnitude_537 (by decide) ?_
          refine W.lcmp hx hb dJ24_divideMagnitude_538 ?_
          refine lv_if_lt (tgt := 565) hx hb dJ24_divideMagnitude_539 (by decide) (fun c_539 => ?_) (fun c_539 => ?_)
          · skip
            have c_539 := (lN_neg0 (by omega)).mp c_539
            refine lv_lload hx hb dJ24_divideMagnitude_565 (lv_at hl 0 rfl) ?_
            refine lv_iload hx hb dJ24_divideMagnitude_567 (lv_at hl 17 rfl) ?_
            refine gcS2_lP hCF hwm hl.1 (m_divWord l z H_14  (g j * 4294967296 + g (j + 1)) (e1 0) hD2 he10 (by omega) hq9 ) (lw_S q1037 q1038 q85 q1039) yd_J24_divWord ⟨Nat.le_of_ble_eq_true rfl, Nat.le_of_ble_eq_true rfl⟩ ⟨by first | omega | (dsimp only; omega), by first | omega | (dsimp only; omega)⟩ (Nat.le_of_ble_eq_true rfl) dJ24_divideMagnitude_569 (fun r_25 hp => ?_)
            subst hp
            refine lv_lstore hx hb dJ24_divideMagnitude_572 hl (by decide) rfl (fun ls hl => ?_)
            have hl : lv_has ls 28 [(24, .long (lN ((g j * 4294967296 + g (j + 1)) % e1 0 * 4294967296 + (g j * 4294967296 + g (j + 1)) / e1 0))), (22, .long (lN (g j * 4294967296 + g (j + 1)))), (21, .int (nI (g (j + 1)))), (20, .int (iI (((g j) : Nat) + (-2147483648)))), (19, .int (nI (g j))), (18, .int 0), (17, .int 0), (16, .int 0), (0, .ref a), (1, .ref b), (2, .ref qo), (3, .int 0), (4, .int (nI sh)), (5, .int (nI m0)), (6, .ref vd), (7, .ref ro), (9, .int (nI lim)), (10, .ref vq1), (11, .int (nI (e1 0))), (12, .long (lN (e1 0))), (14, .int (nI (e1 1))), (15, .int (nI j))] := hl
            refine lv_lload hx hb dJ24_divideMagnitude_574 (lv_at hl 0 rfl) ?_
            refine lv_ldc2 (v := 4294967295) hx hb hown (hts _ q1035) dJ24_divideMagnitude_576 ?_
            refine lv_land hx hb dJ24_divideMagnitude_579 ?_
            refine g_topl (v := lN (((g j * 4294967296 + g (j + 1)) % e1 0 * 4294967296 + (g j * 4294967296 + g (j + 1)) / e1 0) % 4294967296)) (lN_and _) ?_
            refine lv_l2i hx hb dJ24_divideMagnitude_580 rfl ?_
            refine g_topi (v := (nI ((g j * 4294967296 + g (j + 1)) / e1 0))) ((ai_l2i (a := ((g j * 4294967296 + g (j + 1)) % e1 0 * 4294967296 + (g j * 4294967296 + g (j + 1)) / e1 0) % 4294967296) rfl).trans (congrArg nI (kn_lo hq9))) ?_
            refine lv_istore hx hb dJ24_divideMagnitude_581 hl (by decide) rfl (fun ls hl => ?_)
            have hl : lv_has ls 28 [(16, .int (nI ((g j * 4294967296 + g (j + 1)) / e1 0))), (24, .long (lN ((g j * 4294967296 + g (j + 1)) % e1 0 * 4294967296 + (g j * 4294967296 + g (j + 1)) / e1 0))), (22, .long (lN (g j * 4294967296 + g (j + 1)))), (21, .int (nI (g (j + 1)))), (20, .int (iI (((g j) : Nat) + (-2147483648)))), (19, .int (nI (g j))), (18, .int 0), (17, .int 0), (0, .ref a), (1, .ref b), (2, .ref qo), (3, .int 0), (4, .int (nI sh)), (5, .int (nI m0)), (6, .ref vd), (7, .ref ro), (9, .int (nI lim)), (10, .ref vq1), (11, .int (nI (e1 0))), (12, .long (lN (e1 0))), (14, .int (nI (e1 1))), (15, .int (nI j))] := hl
            refine lv_lload hx hb dJ24_divideMagnitude_583 (lv_at hl 1 rfl) ?_
            refine lv_bipush (v := 32) hx hb dJ24_divideMagnitude_585 (by decide) ?_
            refine lv_lushr hx hb dJ24_divideMagnitude_587 rfl ?_
            refine g_topl (v := lN (((g j * 4294967296 + g (j + 1)) % e1 0 * 4294967296 + (g j * 4294967296 + g (j + 1)) / e1 0) / 4294967296)) (lN_shr32 (a := ((g j * 4294967296 + g (j + 1)) % e1 0 * 4294967296 + (g j * 4294967296 + g (j + 1)) / e1 0)) (kn_v hb2 hq9)) ?_
            refine lv_l2i hx hb dJ24_divideMagnitude_588 rfl ?_
            refine g_topi (v := (nI ((g j * 4294967296 + g (j + 1)) % e1 0))) ((ai_l2i (a := ((g j * 4294967296 + g (j + 1)) % e1 0 * 4294967296 + (g j * 4294967296 + g (j + 1)) / e1 0) / 4294967296) rfl).trans (congrArg nI (kn_hi hq9))) ?_
            refine lv_istore hx hb dJ24_divideMagnitude_589 hl (by decide) rfl (fun ls hl => ?_)
            have hl : lv_has ls 28 [(17, .int (nI ((g j * 4294967296 + g (j + 1)) % e1 0))), (16, .int (nI ((g j * 4294967296 + g (j + 1)) / e1 0))), (24, .long (lN ((g j * 4294967296 + g (j + 1)) % e1 0 * 4294967296 + (g j * 4294967296 + g (j + 1)) / e1 0))), (22, .long (lN (g j * 4294967296 + g (j + 1)))), (21, .int (nI (g (j + 1)))), (20, .int (iI (((g j) : Nat) + (-2147483648)))), (19, .int (nI (g j))), (18, .int 0), (0, .ref a), (1, .ref b), (2, .ref qo), (3, .int 0), (4, .int (nI sh)), (5, .int (nI m0)), (6, .ref vd), (7, .ref ro), (9, .int (nI lim)), (10, .ref vq1), (11, .int (nI (e1 0))), (12, .long (lN (e1 0))), (14, .int (nI (e1 1))), (15, .int (nI j))] := hl
            exact cutB ((g j * 4294967296 + g (j + 1)) / e1 0) ((g j * 4294967296 + g (j + 1)) % e1 0) 0 hb1 hb2 (by decide) hb4 hb5 hb6 hb7 hjl ls (lv_sub hl [8, 9, 10, 11, 12, 13, 14, 15, 16, 17, 18, 19, 20, 21, 1, 0, 7, 6, 5] rfl)
          · skip
            have c_539 := mt (lN_neg0 (by omega)).mpr c_539
            refine lv_lload hx hb dJ24_divideMagnitude_542 (lv_at hl 0 rfl) ?_
            refine lv_lload hx hb dJ24_divideMagnitude_544 (lv_at hl 18 rfl) ?_
            refine lv_ldiv hx hb dJ24_divideMagnitude_546 (lN_ne0 (by omega) (by omega)) ?_
            refine g_topl (v := (lN ((g j * 4294967296 + g (j + 1)) / e1 0))) (lN_div (by omega) (by omega) (by omega)) ?_
            refine lv_l2i hx hb dJ24_divideMagnitude_547 rfl ?_
            refine g_topi (v := nI ((g j * 4294967296 + g (j + 1)) / e1 0)) (ai_l2i (rfl)) ?_
            refine lv_istore hx hb dJ24_divideMagnitude_548 hl (by decide) rfl (fun ls hl => ?_)
            have hl : lv_has ls 28 [(16, .int (nI ((g j * 4294967296 + g (j + 1)) / e1 0))), (22, .long (lN (g j * 4294967296 + g (j + 1)))), (21, .int (nI (g (j + 1)))), (20, .int (iI (((g j) : Nat) + (-2147483648)))), (19, .int (nI (g j))), (18, .int 0), (17, .int 0), (0, .ref a), (1, .ref b), (2, .ref qo), (3, .int 0), (4, .int (nI sh)), (5, .int (nI m0)), (6, .ref vd), (7, .ref ro), (9, .int (nI lim)), (10, .ref vq1), (11, .int (nI (e1 0))), (12, .long (lN (e1 0))), (14, .int (nI (e1 1))), (15, .int (nI j))] := hl
            refine lv_lload hx hb dJ24_divideMagnitude_550 (lv_at hl 1 rfl) ?_
            refine lv_iload hx hb dJ24_divideMagnitude_552 (lv_at hl 0 rfl) ?_
            refine lv_i2l hx hb dJ24_divideMagnitude_554 rfl ?_
            refine lv_lload hx hb dJ24_divideMagnitude_555 (lv_at hl 18 rfl) ?_
            refine lv_lmul hx hb dJ24_divideMagnitude_557 ?_
            refine lv_lsub hx hb dJ24_divideMagnitude_558 ?_
            refine lv_l2i hx hb dJ24_divideMagnitude_559 rfl ?_
            refine g_topi (v := (nI ((g j * 4294967296 + g (j + 1)) % e1 0))) ((l2i_sx (Nat.div_mul_le_self _ _) hq9).trans (congrArg nI kn_md)) ?_
            refine lv_istore hx hb dJ24_divideMagnitude_560 hl (by decide) rfl (fun ls hl => ?_)
            have hl : lv_has ls 28 [(17, .int (nI ((g j * 4294967296 + g (j + 1)) % e1 0))), (16, .int (nI ((g j * 4294967296 + g (j + 1)) / e1 0))), (22, .long (lN (g j * 4294967296 + g (j + 1)))), (21, .int (nI (g (j + 1)))), (20, .int (iI (((g j) : Nat) + (-2147483648)))), (19, .int (nI (g j))), (18, .int 0), (0, .ref a), (1, .ref b), (2, .ref qo), (3, .int 0), (4, .int (nI sh)), (5, .int (nI m0)), (6, .ref vd), (7, .ref ro), (9, .int (nI lim)), (10, .ref vq1), (11, .int (nI (e1 0))), (12, .long (lN (e1 0))), (14, .int (nI (e1 1))), (15, .int (nI j))] := hl
            refine lv_goto (tgt := 591) hx hb dJ24_divideMagnitude_562 (by decide) ?_
            exact cutB ((g j * 4294967296 + g (j + 1)) / e1 0) ((g j * 4294967296 + g (j + 1)) % e1 0) 0 hb1 hb2 (by decide) hb4 hb5 hb6 hb7 hjl ls (lv_sub hl [7, 8, 9, 10, 11, 12, 13, 14, 15, 16, 17, 18, 19, 20, 1, 0, 6, 5, 4] rfl)
        · skip
          have c_486 := (ai_eqU (a := (g j)) (b := (e1 0)) (rfl) (rfl) (hg _) (he1 _)).mp c_486
          have hnh2 : g j = e1 0 := by omega
          refine lv_iconst (v := -1) hx hb dJ24_divideMagnitude_489 (by decide) ?_
          refine lv_istore hx hb dJ24_divideMagnitude_490 hl (by decide) rfl (fun ls hl => ?_)
          have hl : lv_has ls 28 [(16, .int (-1)), (21, .int (nI (g (j + 1)))), (20, .int (iI (((g j) : Nat) + (-2147483648)))), (19, .int (nI (g j))), (18, .int 0), (17, .int 0), (0, .ref a), (1, .ref b), (2, .ref qo), (3, .int 0), (4, .int (nI sh)), (5, .int (nI m0)), (6, .ref vd), (7, .ref ro), (9, .int (nI lim)), (10, .ref vq1), (11, .int (nI (e1 0))), (12, .long (lN (e1 0))), (14, .int (nI (e1 1))), (15, .int (nI j))] := hl
          replace hl : lv_has ls 28 [(16, .int (nI 4294967295)), (21, .int (nI (g (j + 1)))), (20, .int (iI (((g j) : Nat) + (-2147483648)))), (19, .int (nI (g j))), (18, .int 0), (17, .int 0), (0, .ref a), (1, .ref b), (2, .ref qo), (3, .int 0), (4, .int (nI sh)), (5, .int (nI m0)), (6, .ref vd), (7, .ref ro), (9, .int (nI lim)), (10, .ref vq1), (11, .int (nI (e1 0))), (12, .long (lN (e1 0))), (14, .int (nI (e1 1))), (15, .int (nI j))] := by
            rw [show nI 4294967295 = -1 by decide]
            exact hl
          refine lv_iload hx hb dJ24_divideMagnitude_492 (lv_at hl 3 rfl) ?_
          refine lv_iload hx hb dJ24_divideMagnitude_494 (lv_at hl 1 rfl) ?_
          refine lv_iadd hx hb dJ24_divideMagnitude_496 ?_
          refine g_topi (v := (nI ((g j + g (j + 1)) % 4294967296))) (by rw [nI_mod, nI_add]) ?_
          refine lv_istore hx hb dJ24_divideMagnitude_497 hl (by decide) rfl (fun ls hl => ?_)
          have hl : lv_has ls 28 [(17, .int (nI ((g j + g (j + 1)) % 4294967296))), (16, .int (nI 4294967295)), (21, .int (nI (g (j + 1)))), (20, .int (iI (((g j) : Nat) + (-2147483648)))), (19, .int (nI (g j))), (18, .int 0), (0, .ref a), (1, .ref b), (2, .ref qo), (3, .int 0), (4, .int (nI sh)), (5, .int (nI m0)), (6, .ref vd), (7, .ref ro), (9, .int (nI lim)), (10, .ref vq1), (11, .int (nI (e1 0))), (12, .long (lN (e1 0))), (14, .int (nI (e1 1))), (15, .int (nI j))] := hl
          refine lv_iload hx hb dJ24_divideMagnitude_499 (lv_at hl 0 rfl) ?_
          refine lv_ldc (v := -2147483648) hx hb hown (hts _ q1012) dJ24_divideMagnitude_501 ?_
          refine lv_iadd hx hb dJ24_divideMagnitude_503 ?_
          refine g_topi (v := iI ((((g j + g (j + 1)) % 4294967296) : Nat) + (-2147483648))) (ai_addI (a := (((g j + g (j + 1)) % 4294967296) : Nat)) (b := (-2147483648)) (nI_iI _) (by decide)) ?_
          refine lv_iload hx hb dJ24_divideMagnitude_504 (lv_at hl 3 rfl) ?_
          refine lv_icmp_ge (tgt := 513) hx hb dJ24_divideMagnitude_506 (by decide) (fun c_506 => ?_) (fun c_506 => ?_)
          · skip
            have c_506 := (ai_leI (a := (((g j) : Nat) + (-2147483648))) (b := ((((g j + g (j + 1)) % 4294967296) : Nat) + (-2147483648))) (rfl) (rfl) (by omega) (by omega) (by omega) (by omega)).mp c_506
            have hb1 : 4294967295 < 4294967296 := by decide
            have hb2 : (g j + g (j + 1)) % 4294967296 < 4294967296 := Nat.mod_lt _ (by decide)
            have hb4 := kn_a hXB hDpos
            have hb5 : 0 = 0 → 4294967295 * e1 0 + (g j + g (j + 1)) % 4294967296 = (g j * 4294967296 + g (j + 1)) := fun _ => by omega
            have hb6 : 0 = 1 → 4294967295 * (e1 0 * 4294967296 + e1 1) ≤ ((g j * 4294967296 + g (j + 1)) * 4294967296 + g (j + 2)) := fun q => by cases q
            have hb7 : 4294967295 = 0 → (g j * 4294967296 + g (j + 1)) < e1 0 := fun q => by cases q
            refine lv_iconst (v := 0) hx hb dJ24_divideMagnitude_513 (by decide) ?_
            refine lv_istore hx hb dJ24_divideMagnitude_514 hl (by decide) rfl (fun ls hl => ?_)
            have hl : lv_has ls 28 [(18, .int 0), (17, .int (nI ((g j + g (j + 1)) % 4294967296))), (16, .int (nI 4294967295)), (21, .int (nI (g (j + 1)))), (20, .int (iI (((g j) : Nat) + (-2147483648)))), (19, .int (nI (g j))), (0, .ref a), (1, .ref b), (2, .ref qo), (3, .int 0), (4, .int (nI sh)), (5, .int (nI m0)), (6, .ref vd), (7, .ref ro), (9, .int (nI lim)), (10, .ref vq1), (11, .int (nI (e1 0))), (12, .long (lN (e1 0))), (14, .int (nI (e1 1))), (15, .int (nI j))] := hl
            refine lv_goto (tgt := 591) hx hb dJ24_divideMagnitude_516 (by decide) ?_
            exact cutB 4294967295 ((g j + g (j + 1)) % 4294967296) 0 hb1 hb2 (by decide) hb4 hb5 hb6 hb7 hjl ls (lv_sub hl [6, 7, 8, 9, 10, 11, 12, 13, 14, 15, 16, 17, 18, 19, 2, 1, 0, 5, 4] rfl)
          · skip
            have c_506 := mt (ai_leI (a := (((g j) : Nat) + (-2147483648))) (b := ((((g j + g (j + 1)) % 4294967296) : Nat) + (-2147483648))) (rfl) (rfl) (by omega) (by omega) (by omega) (by omega)).mpr c_506
            have hb1 : 4294967295 < 4294967296 := by decide
            have hb2 : (g j + g (j + 1)) % 4294967296 < 4294967296 := Nat.mod_lt _ (by decide)
            have hb4 := kn_a hXB hDpos
            have hb5 : 1 = 0 → 4294967295 * e1 0 + (g j + g (j + 1)) % 4294967296 = (g j * 4294967296 + g (j + 1)) := fun q => by cases q
            have hb6 : 1 = 1 → 4294967295 * (e1 0 * 4294967296 + e1 1) ≤ ((g j * 4294967296 + g (j + 1)) * 4294967296 + g (j + 2)) := fun _ => kn_ov (r := g j + g (j + 1)) (by omega) (by omega) (by decide) he11
            have hb7 : 4294967295 = 0 → (g j * 4294967296 + g (j + 1)) < e1 0 := fun q => by cases q
            refine lv_iconst (v := 1) hx hb dJ24_divideMagnitude_509 (by decide) ?_
            refine lv_goto (tgt := 514) hx hb dJ24_divideMagnitude_510 (by decide) ?_
            refine lv_istore hx hb dJ24_divideMagnitude_514 hl (by decide) rfl (fun ls hl => ?_)
            have hl : lv_has ls 28 [(18, .int 1), (17, .int (nI ((g j + g (j + 1)) % 4294967296))), (16, .int (nI 4294967295)), (21, .int (nI (g (j + 1)))), (20, .int (iI (((g j) : Nat) + (-2147483648)))), (19, .int (nI (g j))), (0, .ref a), (1, .ref b), (2, .ref qo), (3, .int 0), (4, .int (nI sh)), (5, .int (nI m0)), (6, .ref vd), (7, .ref ro), (9, .int (nI lim)), (10, .ref vq1), (11, .int (nI (e1 0))), (12, .long (lN (e1 0))), (14, .int (nI (e1 1))), (15, .int (nI j))] := hl
            refine lv_goto (tgt := 591) hx hb dJ24_divideMagnitude_516 (by decide) ?_
            exact cutB 4294967295 ((g j + g (j + 1)) % 4294967296) 1 hb1 hb2 (by decide) hb4 hb5 hb6 hb7 hjl ls (lv_sub hl [6, 7, 8, 9, 10, 11, 12, 13, 14, 15, 16, 17, 18, 19, 2, 1, 0, 5, 4] rfl)
  have cutS : ∀ (vd ro vr nl sh : Nat) (e1 g : Nat → Nat), (H0.size ≤ ro ∧ H0.size ≤ vr ∧ H0.size ≤ vd ∧ vr ≠ vd ∧ vr ≠ ro ∧ vd ≠ ro) → (n ≤ nl) → (nl ≤ n + 1) → (∀ i, e1 i < 4294967296) → (∀ i, g i < 4294967296) → (2147483648 ≤ e1 0) → (seg e1 0 m0 = seg ee 0 m0 * 2 ^ sh) → (sh < 32) → (seg g 1 nl = seg d 0 n * 2 ^ sh) → ∀ (H_26 : Heap) (locs : List Loc), va_S (fun q => q = qo ∨ q = vq ∨ H0.size ≤ q) H0 H_26 locs → gO z wa RJ24 TJ24 3 H_26 a [.ref va, .int (nI n), .int 0] → gI z true .int H_26 vd m0 (dI e1) → gO z true RJ24 TJ24 3 H_26 ro [.ref vr, .int (nI nl), .int 1] → gI z true .int H_26 vr (nl + 1) (dI g) → gO z true RJ24 TJ24 3 H_26 qo [.ref vq, .int 0, .int 0] → gI z true .int H_26 vq 1 (dI (fun _ => 0)) → ∀ (ls : Array Slot), lv_has ls 28 [(0, .ref a), (1, .ref b), (2, .ref qo), (3, .int 0), (4, .int (nI sh)), (5, .int (nI m0)), (6, .ref vd), (7, .ref ro)] → W p l e { frames := 3, cells := 4, slots := (2 * n + 7), locals := 86 } s m [.ref a, .ref b, .ref qo, .int 0].toArray below meth c H_26 locs 3 (m0 + n + 5) (MQ below (gRn (fun q => q = qo ∨ q = vq ∨ H0.size ≤ q) H0 (fun H1 => ∃ v1, (v1 = vq ∨ H0.size ≤ v1) ∧ v1 ≠ qo ∧ mV z H1 qo v1 (n + 2) (seg d 0 n / seg ee 0 m0))) [.ref a, .ref b, .ref qo, .int 0].toArray s 4 (2 * n + 7) (fun q => q = qo ∨ q = vq ∨ H0.size ≤ q)) (F0 m 323 ls []) := by
    intro vd ro vr nl sh e1 g hk3 hnl1 hnl2 he1 hg hD2 hDv hsh hRv H_26 locs hS hO hV hRo hRa hQo hQa ls hl
    have he10 := he1 0
    have he11 := he1 1
    refine lv_aload hx hb dJ24_divideMagnitude_323 (lv_at hl 7 rfl) ?_
    refine gw_get (C := RJ24) (T := TJ24) (N := 3) (v := .int (nI nl)) hx hb hts in_J24 hown hal hRo 1 (by decide) (hts _ q980) (fun _ h9 => h9) rfl dJ24_divideMagnitude_325 ?_
    refine lv_istore hx hb dJ24_divideMagnitude_328 hl (by decide) rfl (fun ls hl => ?_)
    have hl : lv_has ls 28 [(8, .int (nI nl)), (0, .ref a), (1, .ref b), (2, .ref qo), (3, .int 0), (4, .int (nI sh)), (5, .int (nI m0)), (6, .ref vd), (7, .ref ro)] := hl
    refine lv_iload hx hb dJ24_divideMagnitude_330 (lv_at hl 0 rfl) ?_
    refine lv_iload hx hb dJ24_divideMagnitude_332 (lv_at hl 6 rfl) ?_
    refine lv_isub hx hb dJ24_divideMagnitude_334 ?_
    refine g_topi (v := nI (nl - m0)) (ai_sub (a := nl) (b := m0) (rfl) (rfl) (by omega)) ?_
    refine lv_iconst (v := 1) hx hb dJ24_divideMagnitude_335 (by decide) ?_
    refine lv_iadd hx hb dJ24_divideMagnitude_336 ?_
    refine g_topi (v := nI ((nl - m0) + 1)) (ai_add (a := (nl - m0)) (b := 1) (rfl) (rfl)) ?_
    obtain ⟨lim, hlim⟩ : ∃ lim : Nat, lim = ((nl - m0) + 1) := ⟨_, rfl⟩
    refine g_topi (v := nI lim) (by rw [hlim]) ?_
    refine lv_istore hx hb dJ24_divideMagnitude_337 hl (by decide) rfl (fun ls hl => ?_)
    have hl : lv_has ls 28 [(9, .int (nI lim)), (8, .int (nI nl)), (0, .ref a), (1, .ref b), (2, .ref qo), (3, .int 0), (4, .int (nI sh)), (5, .int (nI m0)), (6, .ref vd), (7, .ref ro)] := hl
    refine lv_aload_n hx hb dJ24_divideMagnitude_339 rfl (lv_at hl 4 rfl) ?_
    refine gw_get (C := RJ24) (T := TJ24) (N := 3) (v := .ref vq) hx hb hts in_J24 hown hal hQo 0 (by decide) (hts _ q979) (fun _ h9 => h9) rfl dJ24_divideMagnitude_340 ?_
    refine gw_len hx hb hal hQa dJ24_divideMagnitude_343 ?_
    refine lv_iload hx hb dJ24_divideMagnitude_344 (lv_at hl 0 rfl) ?_
    refine lv_icmp_ge (tgt := 362) hx hb dJ24_divideMagnitude_346 (by decide) (fun c_346 => ?_) (fun c_346 => ?_)
    · skip
      have c_346 := (ai_le (a := lim) (b := 1) (rfl) (rfl) (by omega) (by omega)).mp c_346
      have hl1 : lim = 1 := by omega
      replace hQa : gI z true .int H_26 vq lim (dI (fun _ => 0)) := by rw [hl1]; exact hQa
      refine lv_aload_n hx hb dJ24_divideMagnitude_362 rfl (lv_at hl 4 rfl) ?_
      refine lv_iload hx hb dJ24_divideMagnitude_363 (lv_at hl 0 rfl) ?_
      refine gw_put (C := RJ24) (T := TJ24) (N := 3) (ty := .int) (v := .int (nI lim)) hx hb hts in_J24 tyJ24 tyJ24_ok nmJ24 (hts _ q974) hown hal hQo hS (by have hsz := hS.1; (try dsimp only [gfr]) <;> omega) 1 (by decide) (hts _ q980) (fun _ h9 => h9) rfl (by decide +kernel) (rfl) (rfl) (Nat.le_of_ble_eq_true rfl) dJ24_divideMagnitude_365 (fun H_27 locs h_new hch hS => ?_)
      have hO := hO.ch hch (by omega)
      have hV := hV.ch hch (by omega)
      have hRo := hRo.ch hch (by omega)
      have hRa := hRa.ch hch (by omega)
      have hQa := hQa.ch hch (by omega)
      have sz_H_27 := hch.1
      clear hch
      have hQo : gO z true RJ24 TJ24 3 H_27 qo [.ref vq, .int (nI lim), .int 0] := h_new
      refine lv_aload_n hx hb dJ24_divideMagnitude_368 rfl (lv_at hl 4 rfl) ?_
      refine gw_get (C := RJ24) (T := TJ24) (N := 3) (v := .ref vq) hx hb hts in_J24 hown hal hQo 0 (by decide) (hts _ q979) (fun _ h9 => h9) rfl dJ24_divideMagnitude_369 ?_
      refine lv_astore hx hb dJ24_divideMagnitude_372 hl (by decide) rfl (fun ls hl => ?_)
      have hl : lv_has ls 28 [(10, .ref vq), (9, .int (nI lim)), (8, .int (nI nl)), (0, .ref a), (1, .ref b), (2, .ref qo), (3, .int 0), (4, .int (nI sh)), (5, .int (nI m0)), (6, .ref vd), (7, .ref ro)] := hl
      refine lv_aload hx hb dJ24_divideMagnitude_374 (lv_at hl 10 rfl) ?_
      refine lv_iconst (v := 0) hx hb dJ24_divideMagnitude_376 (by decide) ?_
      refine gw_put (C := RJ24) (T := TJ24) (N := 3) (ty := .int) (v := .int 0) hx hb hts in_J24 tyJ24 tyJ24_ok nmJ24 (hts _ q974) hown hal hRo hS (by have hsz := hS.1; (try dsimp only [gfr]) <;> omega) 2 (by decide) (hts _ q981) (fun _ h9 => h9) rfl (by decide +kernel) (rfl) (rfl) (Nat.le_of_ble_eq_true rfl) dJ24_divideMagnitude_377 (fun H_28 locs h_new hch hS => ?_)
      have hO := hO.ch hch (by omega)
      have hV := hV.ch hch (by omega)
      have hRa := hRa.ch hch (by omega)
      have hQo := hQo.ch hch (by omega)
      have hQa := hQa.ch hch (by omega)
      have sz_H_28 := hch.1
      clear hch
      have hRo : gO z true RJ24 TJ24 3 H_28 ro [.ref vr, .int (nI nl), .int 0] := h_new
      refine lv_aload hx hb dJ24_divideMagnitude_380 (lv_at hl 10 rfl) ?_
      refine gw_get (C := RJ24) (T := TJ24) (N := 3) (v := .ref vr) hx hb hts in_J24 hown hal hRo 0 (by decide) (hts _ q979) (fun _ h9 => h9) rfl dJ24_divideMagnitude_382 ?_
      refine lv_iconst (v := 0) hx hb dJ24_divideMagnitude_385 (by decide) ?_
      refine lv_iconst (v := 0) hx hb dJ24_divideMagnitude_386 (by decide) ?_
      refine gw_iast (f := (dI g)) hx hb hal hRa hS (by have hsz := hS.1; (try dsimp only [gfr]) <;> omega) 0 (rfl) (by omega) (by omega) dJ24_divideMagnitude_387 (fun H_29 locs h_new hch hS => ?_)
      have hO := hO.ch hch (by omega)
      have hV := hV.ch hch (by omega)
      have hRo := hRo.ch hch (by omega)
      have hQo := hQo.ch hch (by omega)
      have hQa := hQa.ch hch (by omega)
      have sz_H_29 := hch.1
      clear hch
      have hRa : gI z true .int H_29 vr (nl + 1) (upd (dI g) 0 0) := h_new
      replace hRa : gI z true .int H_29 vr (nl + 1) (dI (dup g 0 (0 % 4294967296))) := by
        have q := hRa
        rw [show (0 : Int32) = nI 0 from rfl] at q
        rw [dI_put] at q
        exact q
      have bd_30 : ∀ ix, (dup g 0 (0 % 4294967296)) ix < 4294967296 := dup_lt hg (Nat.mod_lt _ (by decide))
      refine lv_aload hx hb dJ24_divideMagnitude_388 (lv_at hl 10 rfl) ?_
      refine lv_dup hx hb dJ24_divideMagnitude_390 rfl ?_
      refine gw_get (C := RJ24) (T := TJ24) (N := 3) (v := .int (nI nl)) hx hb hts in_J24 hown hal hRo 1 (by decide) (hts _ q980) (fun _ h9 => h9) rfl dJ24_divideMagnitude_391 ?_
      refine lv_iconst (v := 1) hx hb dJ24_divideMagnitude_394 (by decide) ?_
      refine lv_iadd hx hb dJ24_divideMagnitude_395 ?_
      refine g_topi (v := nI (nl + 1)) (ai_add (a := nl) (b := 1) (rfl) (rfl)) ?_
      refine gw_put (C := RJ24) (T := TJ24) (N := 3) (ty := .int) (v := .int (nI (nl + 1))) hx hb hts in_J24 tyJ24 tyJ24_ok nmJ24 (hts _ q974) hown hal hRo hS (by have hsz := hS.1; (try dsimp only [gfr]) <;> omega) 1 (by decide) (hts _ q980) (fun _ h9 => h9) rfl (by decide +kernel) (rfl) (rfl) (Nat.le_of_ble_eq_true rfl) dJ24_divideMagnitude_396 (fun H_31 locs h_new hch hS => ?_)
      have hO := hO.ch hch (by omega)
      have hV := hV.ch hch (by omega)
      have hRa := hRa.ch hch (by omega)
      have hQo := hQo.ch hch (by omega)
      have hQa := hQa.ch hch (by omega)
      have sz_H_31 := hch.1
      clear hch
      have hRo : gO z true RJ24 TJ24 3 H_31 ro [.ref vr, .int (nI (nl + 1)), .int 0] := h_new
      refine lv_aload hx hb dJ24_divideMagnitude_399 (lv_at hl 9 rfl) ?_
      refine lv_iconst (v := 0) hx hb dJ24_divideMagnitude_401 (by decide) ?_
      refine gw_iald hx hb hal hV 0 (rfl) (by omega) (by omega) dJ24_divideMagnitude_402 ?_
      refine g_topi (v := (nI (e1 0))) rfl ?_
      refine lv_istore hx hb dJ24_divideMagnitude_403 hl (by decide) rfl (fun ls hl => ?_)
      have hl : lv_has ls 28 [(11, .int (nI (e1 0))), (10, .ref vq), (9, .int (nI lim)), (8, .int (nI nl)), (0, .ref a), (1, .ref b), (2, .ref qo), (3, .int 0), (4, .int (nI sh)), (5, .int (nI m0)), (6, .ref vd), (7, .ref ro)] := hl
      refine lv_iload hx hb dJ24_divideMagnitude_405 (lv_at hl 0 rfl) ?_
      refine lv_i2l hx hb dJ24_divideMagnitude_407 rfl ?_
      refine lv_ldc2 (v := 4294967295) hx hb hown (hts _ q1035) dJ24_divideMagnitude_408 ?_
      refine lv_land hx hb dJ24_divideMagnitude_411 ?_
      refine g_topl (v := lN (e1 0)) (mk32 (a := (e1 0)) (rfl) (he1 _)) ?_
      refine lv_lstore hx hb dJ24_divideMagnitude_412 hl (by decide) rfl (fun ls hl => ?_)
      have hl : lv_has ls 28 [(12, .long (lN (e1 0))), (11, .int (nI (e1 0))), (10, .ref vq), (9, .int (nI lim)), (8, .int (nI nl)), (0, .ref a), (1, .ref b), (2, .ref qo), (3, .int 0), (4, .int (nI sh)), (5, .int (nI m0)), (6, .ref vd), (7, .ref ro)] := hl
      refine lv_aload hx hb dJ24_divideMagnitude_414 (lv_at hl 11 rfl) ?_
      refine lv_iconst (v := 1) hx hb dJ24_divideMagnitude_416 (by decide) ?_
      refine gw_iald hx hb hal hV 1 (rfl) (by omega) (by omega) dJ24_divideMagnitude_417 ?_
      refine g_topi (v := (nI (e1 1))) rfl ?_
      refine lv_istore hx hb dJ24_divideMagnitude_418 hl (by decide) rfl (fun ls hl => ?_)
      have hl : lv_has ls 28 [(14, .int (nI (e1 1))), (12, .long (lN (e1 0))), (11, .int (nI (e1 0))), (10, .ref vq), (9, .int (nI lim)), (8, .int (nI nl)), (0, .ref a), (1, .ref b), (2, .ref qo), (3, .int 0), (4, .int (nI sh)), (5, .int (nI m0)), (6, .ref vd), (7, .ref ro)] := hl
      refine lv_iconst (v := 0) hx hb dJ24_divideMagnitude_420 (by decide) ?_
      refine lv_istore hx hb dJ24_divideMagnitude_421 hl (by decide) rfl (fun ls hl => ?_)
      have hl : lv_has ls 28 [(15, .int 0), (14, .int (nI (e1 1))), (12, .long (lN (e1 0))), (11, .int (nI (e1 0))), (10, .ref vq), (9, .int (nI lim)), (8, .int (nI nl)), (0, .ref a), (1, .ref b), (2, .ref qo), (3, .int 0), (4, .int (nI sh)), (5, .int (nI m0)), (6, .ref vd), (7, .ref ro)] := hl
      exact W.widen (by omega) (by omega) (cutA _ vd ro vr vq nl lim sh 0 e1 (dup g 0 (0 % 4294967296)) (fun _ => 0) he1 hD2 hDv hsh (by omega) (by unfold adF; omega) (by omega) (by omega) bd_30 (fun _ => by decide) (kn_in hg hm2 rfl hD2) (kn_in2 rfl (by omega) hRv _ _) (fun i h => absurd h (Nat.not_lt_zero _)) (fun _ _ _ => rfl) (Nat.lt_succ_self _) H_31 _ hS hO hV hRo hRa hQo hQa ls (lv_sub hl [7, 8, 9, 10, 11, 12, 13, 14, 5, 4, 3, 2, 1, 0] rfl))
    · skip
      have c_346 := mt (ai_le (a := lim) (b := 1) (rfl) (rfl) (by omega) (by omega)).mpr c_346
      refine lv_aload_n hx hb dJ24_divideMagnitude_349 rfl (lv_at hl 4 rfl) ?_
      refine lv_iload hx hb dJ24_divideMagnitude_350 (lv_at hl 0 rfl) ?_
      have hsz := hS.1
      have lt_a := hO.lt
      have lt_vd := hV.lt
      have lt_ro := hRo.lt
      have lt_vr := hRa.lt
      have lt_qo := hQo.lt
      have lt_vq := hQa.lt
      refine gw_newa (atype := .int) (ty := .int) (N' := lim) hx hb (hts _ q990) rfl hal hS (rfl) (by omega) (by simp [componentBytes]; omega) (by first | omega | (dsimp only; omega)) (by first | omega | (dsimp only; omega)) dJ24_divideMagnitude_352 (fun qq H_32 eqq zqq hgx h_qq hS => ?_)
      have hO := hO.x hgx
      have hV := hV.x hgx
      have hRo := hRo.x hgx
      have hRa := hRa.x hgx
      have hQo := hQo.x hgx
      have hQa := hQa.x hgx
      have h_qq : gI z true .int H_32 qq lim (fun _ => 0) := h_qq
      have h_qq : gI z true .int H_32 qq lim (dI (fun _ => 0)) := h_qq
      refine gw_put (C := RJ24) (T := TJ24) (N := 3) (ty := (.array .int)) (v := .ref qq) hx hb hts in_J24 tyJ24 tyJ24_ok nmJ24 (hts _ q974) hown hal hQo hS (by have hsz := hS.1; (try dsimp only [gfr]) <;> omega) 0 (by decide) (hts _ q979) (fun _ h9 => h9) rfl (by decide +kernel) (rfl) (rfl) (Nat.le_of_ble_eq_true rfl) dJ24_divideMagnitude_354 (fun H_33 locs h_new hch hS => ?_)
      have hO := hO.ch hch (by omega)
      have hV := hV.ch hch (by omega)
      have hRo := hRo.ch hch (by omega)
      have hRa := hRa.ch hch (by omega)
      have hQa := hQa.ch hch (by omega)
      have h_qq := h_qq.ch hch (by omega)
      have sz_H_33 := hch.1
      clear hch
      have hQo : gO z true RJ24 TJ24 3 H_33 qo [.ref qq, .int 0, .int 0] := h_new
      refine lv_aload_n hx hb dJ24_divideMagnitude_357 rfl (lv_at hl 4 rfl) ?_
      refine lv_iconst (v := 0) hx hb dJ24_divideMagnitude_358 (by decide) ?_
      refine gw_put (C := RJ24) (T := TJ24) (N := 3) (ty := .int) (v := .int 0) hx hb hts in_J24 tyJ24 tyJ24_ok nmJ24 (hts _ q974) hown hal hQo hS (by have hsz := hS.1; (try dsimp only [gfr]) <;> omega) 2 (by decide) (hts _ q981) (fun _ h9 => h9) rfl (by decide +kernel) (rfl) (rfl) (Nat.le_of_ble_eq_true rfl) dJ24_divideMagnitude_359 (fun H_34 locs h_new hch hS => ?_)
      have hO := hO.ch hch (by omega)
      have hV := hV.ch hch (by omega)
      have hRo := hRo.ch hch (by omega)
      have hRa := hRa.ch hch (by omega)
      have hQa := hQa.ch hch (by omega)
      have h_qq := h_qq.ch hch (by omega)
      have sz_H_34 := hch.1
      clear hch
      have hQo : gO z true RJ24 TJ24 3 H_34 qo [.ref qq, .int 0, .int 0] := h_new
      have hQa := h_qq
      refine lv_aload_n hx hb dJ24_divideMagnitude_362 rfl (lv_at hl 4 rfl) ?_
      refine lv_iload hx hb dJ24_divideMagnitude_363 (lv_at hl 0 rfl) ?_
      refine gw_put (C := RJ24) (T := TJ24) (N := 3) (ty := .int) (v := .int (nI lim)) hx hb hts in_J24 tyJ24 tyJ24_ok nmJ24 (hts _ q974) hown hal hQo hS (by have hsz := hS.1; (try dsimp only [gfr]) <;> omega) 1 (by decide) (hts _ q980) (fun _ h9 => h9) rfl (by decide +kernel) (rfl) (rfl) (Nat.le_of_ble_eq_true rfl) dJ24_divideMagnitude_365 (fun H_35 locs h_new hch hS => ?_)
      have hO := hO.ch hch (by omega)
      have hV := hV.ch hch (by omega)
      have hRo := hRo.ch hch (by omega)
      have hRa := hRa.ch hch (by omega)
      have hQa := hQa.ch hch (by omega)
      have sz_H_35 := hch.1
      clear hch
      have hQo : gO z true RJ24 TJ24 3 H_35 qo [.ref qq, .int (nI lim), .int 0] := h_new
      refine lv_aload_n hx hb dJ24_divideMagnitude_368 rfl (lv_at hl 4 rfl) ?_
      refine gw_get (C := RJ24) (T := TJ24) (N := 3) (v := .ref qq) hx hb hts in_J24 hown hal hQo 0 (by decide) (hts _ q979) (fun _ h9 => h9) rfl dJ24_divideMagnitude_369 ?_
      refine lv_astore hx hb dJ24_divideMagnitude_372 hl (by decide) rfl (fun ls hl => ?_)
      have hl : lv_has ls 28 [(10, .ref qq), (9, .int (nI lim)), (8, .int (nI nl)), (0, .ref a), (1, .ref b), (2, .ref qo), (3, .int 0), (4, .int (nI sh)), (5, .int (nI m0)), (6, .ref vd), (7, .ref ro)] := hl
      refine lv_aload hx hb dJ24_divideMagnitude_374 (lv_at hl 10 rfl) ?_
      refine lv_iconst (v := 0) hx hb dJ24_divideMagnitude_376 (by decide) ?_
      refine gw_put (C := RJ24) (T := TJ24) (N := 3) (ty := .int) (v := .int 0) hx hb hts in_J24 tyJ24 tyJ24_ok nmJ24 (hts _ q974) hown hal hRo hS (by have hsz := hS.1; (try dsimp only [gfr]) <;> omega) 2 (by decide) (hts _ q981) (fun _ h9 => h9) rfl (by decide +kernel) (rfl) (rfl) (Nat.le_of_ble_eq_true rfl) dJ24_divideMagnitude_377 (fun H_36 locs h_new hch hS => ?_)
      have hO := hO.ch hch (by omega)
      have hV := hV.ch hch (by omega)
      have hRa := hRa.ch hch (by omega)
      have hQo := hQo.ch hch (by omega)
      have hQa := hQa.ch hch (by omega)
      have sz_H_36 := hch.1
      clear hch
      have hRo : gO z true RJ24 TJ24 3 H_36 ro [.ref vr, .int (nI nl), .int 0] := h_new
      refine lv_aload hx hb dJ24_divideMagnitude_380 (lv_at hl 10 rfl) ?_
      refine gw_get (C := RJ24) (T := TJ24) (N := 3) (v := .ref vr) hx hb hts in_J24 hown hal hRo 0 (by decide) (hts _ q979) (fun _ h9 => h9) rfl dJ24_divideMagnitude_382 ?_
      refine lv_iconst (v := 0) hx hb dJ24_divideMagnitude_385 (by decide) ?_
      refine lv_iconst (v := 0) hx hb dJ24_divideMagnitude_386 (by decide) ?_
      refine gw_iast (f := (dI g)) hx hb hal hRa hS (by have hsz := hS.1; (try dsimp only [gfr]) <;> omega) 0 (rfl) (by omega) (by omega) dJ24_divideMagnitude_387 (fun H_37 locs h_new hch hS => ?_)
      have hO := hO.ch hch (by omega)
      have hV := hV.ch hch (by omega)
      have hRo := hRo.ch hch (by omega)
      have hQo := hQo.ch hch (by omega)
      have hQa := hQa.ch hch (by omega)
      have sz_H_37 := hch.1
      clear hch
      have hRa : gI z true .int H_37 vr (nl + 1) (upd (dI g) 0 0) := h_new
      replace hRa : gI z true .int H_37 vr (nl + 1) (dI (dup g 0 (0 % 4294967296))) := by
        have q := hRa
        rw [show (0 : Int32) = nI 0 from rfl] at q
        rw [dI_put] at q
        exact q
      have bd_38 : ∀ ix, (dup g 0 (0 % 4294967296)) ix < 4294967296 := dup_lt hg (Nat.mod_lt _ (by decide))
      refine lv_aload hx hb dJ24_divideMagnitude_388 (lv_at hl 10 rfl) ?_
      refine lv_dup hx hb dJ24_divideMagnitude_390 rfl ?_
      refine gw_get (C := RJ24) (T := TJ24) (N := 3) (v := .int (nI nl)) hx hb hts in_J24 hown hal hRo 1 (by decide) (hts _ q980) (fun _ h9 => h9) rfl dJ24_divideMagnitude_391 ?_
      refine lv_iconst (v := 1) hx hb dJ24_divideMagnitude_394 (by decide) ?_
      refine lv_iadd hx hb dJ24_divideMagnitude_395 ?_
      refine g_topi (v := nI (nl + 1)) (ai_add (a := nl) (b := 1) (rfl) (rfl)) ?_
      refine gw_put (C := RJ24) (T := TJ24) (N := 3) (ty := .int) (v := .int (nI (nl + 1))) hx hb hts in_J24 tyJ24 tyJ24_ok nmJ24 (hts _ q974) hown hal hRo hS (by have hsz := hS.1; (try dsimp only [gfr]) <;> omega) 1 (by decide) (hts _ q980) (fun _ h9 => h9) rfl (by decide +kernel) (rfl) (rfl) (Nat.le_of_ble_eq_true rfl) dJ24_divideMagnitude_396 (fun H_39 locs h_new hch hS => ?_)
      have hO := hO.ch hch (by omega)
      have hV := hV.ch hch (by omega)
      have hRa := hRa.ch hch (by omega)
      have hQo := hQo.ch hch (by omega)
      have hQa := hQa.ch hch (by omega)
      have sz_H_39 := hch.1
      clear hch
      have hRo : gO z true RJ24 TJ24 3 H_39 ro [.ref vr, .int (nI (nl + 1)), .int 0] := h_new
      refine lv_aload hx hb dJ24_divideMagnitude_399 (lv_at hl 9 rfl) ?_
      refine lv_iconst (v := 0) hx hb dJ24_divideMagnitude_401 (by decide) ?_
      refine gw_iald hx hb hal hV 0 (rfl) (by omega) (by omega) dJ24_divideMagnitude_402 ?_
      refine g_topi (v := (nI (e1 0))) rfl ?_
      refine lv_istore hx hb dJ24_divideMagnitude_403 hl (by decide) rfl (fun ls hl => ?_)
      have hl : lv_has ls 28 [(11, .int (nI (e1 0))), (10, .ref qq), (9, .int (nI lim)), (8, .int (nI nl)), (0, .ref a), (1, .ref b), (2, .ref qo), (3, .int 0), (4, .int (nI sh)), (5, .int (nI m0)), (6, .ref vd), (7, .ref ro)] := hl
      refine lv_iload hx hb dJ24_divideMagnitude_405 (lv_at hl 0 rfl) ?_
      refine lv_i2l hx hb dJ24_divideMagnitude_407 rfl ?_
      refine lv_ldc2 (v := 4294967295) hx hb hown (hts _ q1035) dJ24_divideMagnitude_408 ?_
      refine lv_land hx hb dJ24_divideMagnitude_411 ?_
      refine g_topl (v := lN (e1 0)) (mk32 (a := (e1 0)) (rfl) (he1 _)) ?_
      refine lv_lstore hx hb dJ24_divideMagnitude_412 hl (by decide) rfl (fun ls hl => ?_)
      have hl : lv_has ls 28 [(12, .long (lN (e1 0))), (11, .int (nI (e1 0))), (10, .ref qq), (9, .int (nI lim)), (8, .int (nI nl)), (0, .ref a), (1, .ref b), (2, .ref qo), (3, .int 0), (4, .int (nI sh)), (5, .int (nI m0)), (6, .ref vd), (7, .ref ro)] := hl
      refine lv_aload hx hb dJ24_divideMagnitude_414 (lv_at hl 11 rfl) ?_
      refine lv_iconst (v := 1) hx hb dJ24_divideMagnitude_416 (by decide) ?_
      refine gw_iald hx hb hal hV 1 (rfl) (by omega) (by omega) dJ24_divideMagnitude_417 ?_
      refine g_topi (v := (nI (e1 1))) rfl ?_
      refine lv_istore hx hb dJ24_divideMagnitude_418 hl (by decide) rfl (fun ls hl => ?_)
      have hl : lv_has ls 28 [(14, .int (nI (e1 1))), (12, .long (lN (e1 0))), (11, .int (nI (e1 0))), (10, .ref qq), (9, .int (nI lim)), (8, .int (nI nl)), (0, .ref a), (1, .ref b), (2, .ref qo), (3, .int 0), (4, .int (nI sh)), (5, .int (nI m0)), (6, .ref vd), (7, .ref ro)] := hl
      refine lv_iconst (v := 0) hx hb dJ24_divideMagnitude_420 (by decide) ?_
      refine lv_istore hx hb dJ24_divideMagnitude_421 hl (by decide) rfl (fun ls hl => ?_)
      have hl : lv_has ls 28 [(15, .int 0), (14, .int (nI (e1 1))), (12, .long (lN (e1 0))), (11, .int (nI (e1 0))), (10, .ref qq), (9, .int (nI lim)), (8, .int (nI nl)), (0, .ref a), (1, .ref b), (2, .ref qo), (3, .int 0), (4, .int (nI sh)), (5, .int (nI m0)), (6, .ref vd), (7, .ref ro)] := hl
      exact W.widen (by omega) (by omega) (cutA _ vd ro vr qq nl lim sh 0 e1 (dup g 0 (0 % 4294967296)) (fun _ => 0) he1 hD2 hDv hsh (by omega) (by unfold adF; omega) (by omega) (by omega) bd_38 (fun _ => by decide) (kn_in hg hm2 rfl hD2) (kn_in2 rfl (by omega) hRv _ _) (fun i h => absurd h (Nat.not_lt_zero _)) (fun _ _ _ => rfl) (Nat.lt_succ_self _) H_39 _ hS hO hV hRo hRa hQo hQa ls (lv_sub hl [7, 8, 9, 10, 11, 12, 13, 14, 5, 4, 3, 2, 1, 0] rfl))
  refine lv_aload_n hx hb dJ24_divideMagnitude_0 rfl (lv_at hl 1 rfl) ?_
  refine gw_get (C := RJ24) (T := TJ24) (N := 3) (v := .ref vb) hx hb hts in_J24 hown hal hOb 0 (by decide) (hts _ q979) (fun _ h9 => h9) rfl dJ24_divideMagnitude_1 ?_
  refine lv_aload_n hx hb dJ24_divideMagnitude_4 rfl (lv_at hl 1 rfl) ?_
  refine gw_get (C := RJ24) (T := TJ24) (N := 3) (v := .int 0) hx hb hts in_J24 hown hal hOb 2 (by decide) (hts _ q981) (fun _ h9 => h9) rfl dJ24_divideMagnitude_5 ?_
  refine gw_iald hx hb hal hB 0 (rfl) (by omega) (by omega) dJ24_divideMagnitude_8 ?_
  refine g_topi (v := (nI (ee 0))) rfl ?_
  refine gcS1_iP hCF hwm hl.1 (m_nlz l z H0  (ee 0) (he 0) ) (lw_S q1036 q862 q78 q863) yd_J17_numberOfLeadingZeros ⟨Nat.le_of_ble_eq_true rfl, Nat.le_of_ble_eq_true rfl⟩ ⟨by first | omega | (dsimp only; omega), by first | omega | (dsimp only; omega)⟩ (Nat.le_of_ble_eq_true rfl) dJ24_divideMagnitude_9 (fun rn hp => ?_)
  obtain ⟨b0, hb01, hb02, hb03⟩ := hp
  subst hb02
  obtain ⟨sh, hshe⟩ : ∃ sh, 32 - b0 = sh := ⟨_, rfl⟩
  rw [hshe]
  have hbp : 1 ≤ b0 := by
    rcases Nat.eq_zero_or_pos b0 with c | c
    · have q := hb03.1
      rw [c, show (2 : Nat) ^ 0 = 1 from rfl] at q
      omega
    · exact c
  have hsh : sh < 32 := by omega
  have hbs : b0 + sh = 32 := by omega
  refine lv_istore hx hb dJ24_divideMagnitude_12 hl (by decide) rfl (fun ls hl => ?_)
  have hl : lv_has ls 28 [(4, .int (nI sh)), (0, .ref a), (1, .ref b), (2, .ref qo), (3, .int 0)] := hl
  refine lv_aload_n hx hb dJ24_divideMagnitude_14 rfl (lv_at hl 2 rfl) ?_
  refine gw_get (C := RJ24) (T := TJ24) (N := 3) (v := .int (nI m0)) hx hb hts in_J24 hown hal hOb 1 (by decide) (hts _ q980) (fun _ h9 => h9) rfl dJ24_divideMagnitude_15 ?_
  refine lv_istore hx hb dJ24_divideMagnitude_18 hl (by decide) rfl (fun ls hl => ?_)
  have hl : lv_has ls 28 [(5, .int (nI m0)), (4, .int (nI sh)), (0, .ref a), (1, .ref b), (2, .ref qo), (3, .int 0)] := hl
  refine lv_iload hx hb dJ24_divideMagnitude_20 (lv_at hl 1 rfl) ?_
  refine lv_if_le (tgt := 248) hx hb dJ24_divideMagnitude_22 (by decide) (fun c_22 => ?_) (fun c_22 => ?_)
  · skip
    have c_22 := (ai_le (a := sh) (b := 0) (rfl) (rfl) (by omega) (by omega)).mp c_22
    refine lv_aload_n hx hb dJ24_divideMagnitude_248 rfl (lv_at hl 3 rfl) ?_
    refine gw_get (C := RJ24) (T := TJ24) (N := 3) (v := .ref vb) hx hb hts in_J24 hown hal hOb 0 (by decide) (hts _ q979) (fun _ h9 => h9) rfl dJ24_divideMagnitude_249 ?_
    refine lv_aload_n hx hb dJ24_divideMagnitude_252 rfl (lv_at hl 3 rfl) ?_
    refine gw_get (C := RJ24) (T := TJ24) (N := 3) (v := .int 0) hx hb hts in_J24 hown hal hOb 2 (by decide) (hts _ q981) (fun _ h9 => h9) rfl dJ24_divideMagnitude_253 ?_
    refine lv_aload_n hx hb dJ24_divideMagnitude_256 rfl (lv_at hl 3 rfl) ?_
    refine gw_get (C := RJ24) (T := TJ24) (N := 3) (v := .int 0) hx hb hts in_J24 hown hal hOb 2 (by decide) (hts _ q981) (fun _ h9 => h9) rfl dJ24_divideMagnitude_257 ?_
    refine lv_aload_n hx hb dJ24_divideMagnitude_260 rfl (lv_at hl 3 rfl) ?_
    refine gw_get (C := RJ24) (T := TJ24) (N := 3) (v := .int (nI m0)) hx hb hts in_J24 hown hal hOb 1 (by decide) (hts _ q980) (fun _ h9 => h9) rfl dJ24_divideMagnitude_261 ?_
    refine lv_iadd hx hb dJ24_divideMagnitude_264 ?_
    refine g_topi (v := nI m0) (ai_add0l (b := m0) (rfl) (rfl)) ?_
    have hsz := hS.1
    refine gcS3_r hCF hwm hl.1 (m_copyRangeE l z H0 vb 0 m0 nb xb ee (by omega) (by omega) (by omega) hB (hbE.cur hS (by have hbEl := hbE.lt; (try dsimp only) <;> omega)) hzw ) (lw_S q1016 q1017 q73 q1018) yd_J13_copyOfRange_2 hS (fun q h => by have hsz := hS.1; (try dsimp only [gfr] at h ⊢) <;> omega) ⟨Nat.le_of_ble_eq_true rfl, Nat.le_of_ble_eq_true rfl⟩ ⟨by first | omega | (dsimp only; omega), by first | omega | (dsimp only; omega)⟩ (Nat.le_of_ble_eq_true rfl) dJ24_divideMagnitude_265 (fun qv H_40 locs hp hex hS => ?_)
    have sz_H_40 : H0.size ≤ H_40.size := hex.1
    have hgx := hex.x
    clear hex
    have hO := hO.x hgx
    have hA := hA.x hgx
    have hOb := hOb.x hgx
    have hB := hB.x hgx
    have hQo := hQo.x hgx
    have hQa := hQa.x hgx
    obtain ⟨hvc1, hV⟩ := hp
    rw [Nat.sub_zero] at hV
    have hsh9 : sh = 0 := by omega
    have hDv : seg (fun i => ee (0 + i)) 0 m0 = seg ee 0 m0 * 2 ^ sh := by rw [hsh9, Nat.pow_zero, Nat.mul_one]; exact seg_cg fun i _ _ => by rw [Nat.zero_add]
    have hD2 := kn_norm he (fun i => he (0 + i)) (by omega) (by omega) hb03 hbs hDv
    have lt_qv := hV.lt
    refine lv_astore hx hb dJ24_divideMagnitude_268 hl (by decide) rfl (fun ls hl => ?_)
    have hl : lv_has ls 28 [(6, .ref qv), (5, .int (nI m0)), (4, .int (nI sh)), (0, .ref a), (1, .ref b), (2, .ref qo), (3, .int 0)] := hl
    have hsz := hS.1
    have lt_a := hO.lt
    have lt_va := hA.lt
    have lt_b := hOb.lt
    have lt_vb := hB.lt
    have lt_qo := hQo.lt
    have lt_vq := hQa.lt
    have lt_qv := hV.lt
    refine gw_new (C := RJ24) (T := TJ24) (N := 3) (fs := [.null, .int 0, .int 0]) hx hb hts in_J24 tyJ24 tyJ24_ok hown hal (hts _ q1006) (hts _ q974) (hts _ q85) hS (by decide +kernel) (by first | omega | (dsimp only; omega)) (by first | omega | (dsimp only; omega)) dJ24_divideMagnitude_270 (fun qm H_41 eqm zqm hgx h_qm hS => ?_)
    have hO := hO.x hgx
    have hA := hA.x hgx
    have hOb := hOb.x hgx
    have hB := hB.x hgx
    have hQo := hQo.x hgx
    have hQa := hQa.x hgx
    have hV := hV.x hgx
    refine lv_dup hx hb dJ24_divideMagnitude_273 rfl ?_
    refine lv_aload_n hx hb dJ24_divideMagnitude_274 rfl (lv_at hl 3 rfl) ?_
    refine gw_get (C := RJ24) (T := TJ24) (N := 3) (v := .int (nI n)) hx hb hts in_J24 hown hal hO 1 (by decide) (hts _ q980) (fun _ h9 => h9) rfl dJ24_divideMagnitude_275 ?_
    refine lv_iconst (v := 1) hx hb dJ24_divideMagnitude_278 (by decide) ?_
    refine lv_iadd hx hb dJ24_divideMagnitude_279 ?_
    refine g_topi (v := nI (n + 1)) (ai_add (a := n) (b := 1) (rfl) (rfl)) ?_
    have hsz := hS.1
    have lt_a := hO.lt
    have lt_va := hA.lt
    have lt_b := hOb.lt
    have lt_vb := hB.lt
    have lt_qo := hQo.lt
    have lt_vq := hQa.lt
    have lt_qv := hV.lt
    have lt_qm := h_qm.lt
    refine gw_newa (atype := .int) (ty := .int) (N' := (n + 1)) hx hb (hts _ q990) rfl hal hS (rfl) (by omega) (by simp [componentBytes]; omega) (by first | omega | (dsimp only; omega)) (by first | omega | (dsimp only; omega)) dJ24_divideMagnitude_280 (fun qr H_42 eqr zqr hgx h_qr hS => ?_)
    have hO := hO.x hgx
    have hA := hA.x hgx
    have hOb := hOb.x hgx
    have hB := hB.x hgx
    have hQo := hQo.x hgx
    have hQa := hQa.x hgx
    have hV := hV.x hgx
    have h_qm := h_qm.x hgx
    have h_qr : gI z true .int H_42 qr (n + 1) (fun _ => 0) := h_qr
    have h_qr : gI z true .int H_42 qr (n + 1) (dI (fun _ => 0)) := h_qr
    have hsz := hS.1
    refine gcI1_v hCF hwm hl.1 (m_mInitA l z H_42 qm qr (n + 1) (fun _ => 0) true h_qm h_qr ) q1085 q992 q85 q993 rfl yd_J24_init_2 hS (fun q h => by have hsz := hS.1; (try dsimp only [gfr] at h ⊢) <;> omega) ⟨Nat.le_of_ble_eq_true rfl, Nat.le_of_ble_eq_true rfl⟩ ⟨by first | omega | (dsimp only; omega), by first | omega | (dsimp only; omega)⟩ (Nat.le_of_ble_eq_true rfl) dJ24_divideMagnitude_282 (fun H_43 locs hp hex hS => ?_)
    have sz_H_43 : H_42.size ≤ H_43.size := hex.1
    have hO := hO.ex hex (by intro h; (try dsimp only [gfr] at h) <;> omega)
    have hA := hA.ex hex (by intro h; (try dsimp only [gfr] at h) <;> omega)
    have hOb := hOb.ex hex (by intro h; (try dsimp only [gfr] at h) <;> omega)
    have hB := hB.ex hex (by intro h; (try dsimp only [gfr] at h) <;> omega)
    have hQo := hQo.ex hex (by intro h; (try dsimp only [gfr] at h) <;> omega)
    have hQa := hQa.ex hex (by intro h; (try dsimp only [gfr] at h) <;> omega)
    have hV := hV.ex hex (by intro h; (try dsimp only [gfr] at h) <;> omega)
    have h_qr := h_qr.ex hex (by intro h; (try dsimp only [gfr] at h) <;> omega)
    clear h_qm
    have hRo := hp
    have lt_qm := hRo.lt
    refine lv_astore hx hb dJ24_divideMagnitude_285 hl (by decide) rfl (fun ls hl => ?_)
    have hl : lv_has ls 28 [(7, .ref qm), (6, .ref qv), (5, .int (nI m0)), (4, .int (nI sh)), (0, .ref a), (1, .ref b), (2, .ref qo), (3, .int 0)] := hl
    refine lv_aload_n hx hb dJ24_divideMagnitude_287 rfl (lv_at hl 4 rfl) ?_
    refine gw_get (C := RJ24) (T := TJ24) (N := 3) (v := .ref va) hx hb hts in_J24 hown hal hO 0 (by decide) (hts _ q979) (fun _ h9 => h9) rfl dJ24_divideMagnitude_288 ?_
    refine lv_aload_n hx hb dJ24_divideMagnitude_291 rfl (lv_at hl 4 rfl) ?_
    refine gw_get (C := RJ24) (T := TJ24) (N := 3) (v := .int 0) hx hb hts in_J24 hown hal hO 2 (by decide) (hts _ q981) (fun _ h9 => h9) rfl dJ24_divideMagnitude_292 ?_
    refine lv_aload hx hb dJ24_divideMagnitude_295 (lv_at hl 0 rfl) ?_
    refine gw_get (C := RJ24) (T := TJ24) (N := 3) (v := .ref qr) hx hb hts in_J24 hown hal hRo 0 (by decide) (hts _ q979) (fun _ h9 => h9) rfl dJ24_divideMagnitude_297 ?_
    refine lv_iconst (v := 1) hx hb dJ24_divideMagnitude_300 (by decide) ?_
    refine lv_aload_n hx hb dJ24_divideMagnitude_301 rfl (lv_at hl 4 rfl) ?_
    refine gw_get (C := RJ24) (T := TJ24) (N := 3) (v := .int (nI n)) hx hb hts in_J24 hown hal hO 1 (by decide) (hts _ q980) (fun _ h9 => h9) rfl dJ24_divideMagnitude_302 ?_
    refine gw_copy hx hb (hml.trans hl.1.symm) hal hown (hts _ q1086) (hts _ q288) (hts _ q287) (hts _ q74) rfl hA h_qr hS (by have hsz := hS.1; (try dsimp only [gfr]) <;> omega) 0 1 n (rfl) (rfl) (rfl) (by omega) (by omega) (by omega) (by omega) (fun _ _ => rfl) (Nat.le_of_ble_eq_true rfl) (Nat.le_of_ble_eq_true rfl) dJ24_divideMagnitude_305 (fun H_45 locs h_new hch hS => ?_)
    have hO := hO.ch hch (by omega)
    have hA := hA.ch hch (by omega)
    have hOb := hOb.ch hch (by omega)
    have hB := hB.ch hch (by omega)
    have hQo := hQo.ch hch (by omega)
    have hQa := hQa.ch hch (by omega)
    have hV := hV.ch hch (by omega)
    have hRo := hRo.ch hch (by omega)
    have sz_H_45 := hch.1
    clear hch
    have h_qr : gI z true .int H_45 qr (n + 1) (va_cpy (dI d) (dI (fun _ => 0)) 0 1 n) := h_new
    have hfe : (va_cpy (dI d) (dI (fun _ => 0)) 0 1 n) = dI (fun i => if 1 ≤ i ∧ i < 1 + n then d (i - 1) else 0) := by
      funext i
      show va_cpy _ _ _ _ _ i = nI (if _ then _ else _)
      unfold va_cpy
      split
      · rw [Nat.zero_add]
        rfl
      · rfl
    rw [hfe] at h_qr
    have hRa : gI z true .int H_45 qr (n + 1) (dI (fun i => if 1 ≤ i ∧ i < 1 + n then d (i - 1) else 0)) := h_qr
    have hRv : seg (fun i => if 1 ≤ i ∧ i < 1 + n then d (i - 1) else 0) 1 n = seg d 0 n * 2 ^ sh := by
      rw [hsh9, Nat.pow_zero, Nat.mul_one]
      unfold seg
      refine val_cg fun i hi => ?_
      show (if _ then _ else _) = _
      rw [if_pos (by omega), show 1 + i - 1 = 0 + i by omega]
    refine lv_aload hx hb dJ24_divideMagnitude_308 (lv_at hl 0 rfl) ?_
    refine lv_aload_n hx hb dJ24_divideMagnitude_310 rfl (lv_at hl 4 rfl) ?_
    refine gw_get (C := RJ24) (T := TJ24) (N := 3) (v := .int (nI n)) hx hb hts in_J24 hown hal hO 1 (by decide) (hts _ q980) (fun _ h9 => h9) rfl dJ24_divideMagnitude_311 ?_
    refine gw_put (C := RJ24) (T := TJ24) (N := 3) (ty := .int) (v := .int (nI n)) hx hb hts in_J24 tyJ24 tyJ24_ok nmJ24 (hts _ q974) hown hal hRo hS (by have hsz := hS.1; (try dsimp only [gfr]) <;> omega) 1 (by decide) (hts _ q980) (fun _ h9 => h9) rfl (by decide +kernel) (rfl) (rfl) (Nat.le_of_ble_eq_true rfl) dJ24_divideMagnitude_314 (fun H_46 locs h_new hch hS => ?_)
    have hO := hO.ch hch (by omega)
    have hA := hA.ch hch (by omega)
    have hOb := hOb.ch hch (by omega)
    have hB := hB.ch hch (by omega)
    have hQo := hQo.ch hch (by omega)
    have hQa := hQa.ch hch (by omega)
    have hV := hV.ch hch (by omega)
    have hRa := hRa.ch hch (by omega)
    have sz_H_46 := hch.1
    clear hch
    have hRo : gO z true RJ24 TJ24 3 H_46 qm [.ref qr, .int (nI n), .int 0] := h_new
    refine lv_aload hx hb dJ24_divideMagnitude_317 (lv_at hl 0 rfl) ?_
    refine lv_iconst (v := 1) hx hb dJ24_divideMagnitude_319 (by decide) ?_
    refine gw_put (C := RJ24) (T := TJ24) (N := 3) (ty := .int) (v := .int 1) hx hb hts in_J24 tyJ24 tyJ24_ok nmJ24 (hts _ q974) hown hal hRo hS (by have hsz := hS.1; (try dsimp only [gfr]) <;> omega) 2 (by decide) (hts _ q981) (fun _ h9 => h9) rfl (by decide +kernel) (rfl) (rfl) (Nat.le_of_ble_eq_true rfl) dJ24_divideMagnitude_320 (fun H_47 locs h_new hch hS => ?_)
    have hO := hO.ch hch (by omega)
    have hA := hA.ch hch (by omega)
    have hOb := hOb.ch hch (by omega)
    have hB := hB.ch hch (by omega)
    have hQo := hQo.ch hch (by omega)
    have hQa := hQa.ch hch (by omega)
    have hV := hV.ch hch (by omega)
    have hRa := hRa.ch hch (by omega)
    have sz_H_47 := hch.1
    clear hch
    have hRo : gO z true RJ24 TJ24 3 H_47 qm [.ref qr, .int (nI n), .int 1] := h_new
    exact W.widen (by omega) (by omega) (cutS qv qm qr n sh (fun i => ee (0 + i)) (fun i => if 1 ≤ i ∧ i < 1 + n then d (i - 1) else 0) (by omega) (by omega) (by omega) (fun i => he (0 + i)) (fun i => by show (if _ then _ else _) < _; split; exact hd _; decide) hD2 hDv hsh hRv H_47 _ hS hO hV hRo hRa hQo hQa ls (lv_sub hl [4, 5, 6, 7, 3, 2, 1, 0] rfl))
  · skip
    have c_22 := mt (ai_le (a := sh) (b := 0) (rfl) (rfl) (by omega) (by omega)).mpr c_22
    refine lv_iload hx hb dJ24_divideMagnitude_25 (lv_at hl 0 rfl) ?_
    have hsz := hS.1
    have lt_a := hO.lt
    have lt_va := hA.lt
    have lt_b := hOb.lt
    have lt_vb := hB.lt
    have lt_qo := hQo.lt
    have lt_vq := hQa.lt
    refine gw_newa (atype := .int) (ty := .int) (N' := m0) hx hb (hts _ q990) rfl hal hS (rfl) (by omega) (by simp [componentBytes]; omega) (by first | omega | (dsimp only; omega)) (by first | omega | (dsimp only; omega)) dJ24_divideMagnitude_27 (fun qv H_48 eqv zqv hgx h_qv hS => ?_)
    have hO := hO.x hgx
    have hA := hA.x hgx
    have hOb := hOb.x hgx
    have hB := hB.x hgx
    have hQo := hQo.x hgx
    have hQa := hQa.x hgx
    have h_qv : gI z true .int H_48 qv m0 (fun _ => 0) := h_qv
    have h_qv : gI z true .int H_48 qv m0 (dI (fun _ => 0)) := h_qv
    refine lv_astore hx hb dJ24_divideMagnitude_29 hl (by decide) rfl (fun ls hl => ?_)
    have hl : lv_has ls 28 [(6, .ref qv), (5, .int (nI m0)), (4, .int (nI sh)), (0, .ref a), (1, .ref b), (2, .ref qo), (3, .int 0)] := hl
    refine lv_aload_n hx hb dJ24_divideMagnitude_31 rfl (lv_at hl 4 rfl) ?_
    refine gw_get (C := RJ24) (T := TJ24) (N := 3) (v := .ref vb) hx hb hts in_J24 hown hal hOb 0 (by decide) (hts _ q979) (fun _ h9 => h9) rfl dJ24_divideMagnitude_32 ?_
    refine lv_aload_n hx hb dJ24_divideMagnitude_35 rfl (lv_at hl 4 rfl) ?_
    refine gw_get (C := RJ24) (T := TJ24) (N := 3) (v := .int 0) hx hb hts in_J24 hown hal hOb 2 (by decide) (hts _ q981) (fun _ h9 => h9) rfl dJ24_divideMagnitude_36 ?_
    refine lv_iload hx hb dJ24_divideMagnitude_39 (lv_at hl 1 rfl) ?_
    refine lv_aload hx hb dJ24_divideMagnitude_41 (lv_at hl 0 rfl) ?_
    refine lv_iconst (v := 0) hx hb dJ24_divideMagnitude_43 (by decide) ?_
    refine lv_iload hx hb dJ24_divideMagnitude_44 (lv_at hl 2 rfl) ?_
    have hsz := hS.1
    refine gcS6_v hCF hwm hl.1 (m_copyShift l z H_48 vb qv 0 m0 0 sh nb m0 xb ee (fun _ => 0) (by omega) (by omega) hsh (by omega) (by omega) (by omega) (by omega) (by omega) he (fun _ => by decide) hB h_qv ) (lw_S q1082 q1083 q85 q1084) yd_J24_copyAndShift hS (fun q h => by have hsz := hS.1; (try dsimp only [gfr] at h ⊢) <;> omega) ⟨Nat.le_of_ble_eq_true rfl, Nat.le_of_ble_eq_true rfl⟩ ⟨by first | omega | (dsimp only; omega), by first | omega | (dsimp only; omega)⟩ (Nat.le_of_ble_eq_true rfl) dJ24_divideMagnitude_46 (fun H_49 locs hp hex hS => ?_)
    have sz_H_49 : H_48.size ≤ H_49.size := hex.1
    have hO := hO.ex hex (by intro h; (try dsimp only [gfr] at h) <;> omega)
    have hA := hA.ex hex (by intro h; (try dsimp only [gfr] at h) <;> omega)
    have hOb := hOb.ex hex (by intro h; (try dsimp only [gfr] at h) <;> omega)
    have hB := hB.ex hex (by intro h; (try dsimp only [gfr] at h) <;> omega)
    have hQo := hQo.ex hex (by intro h; (try dsimp only [gfr] at h) <;> omega)
    have hQa := hQa.ex hex (by intro h; (try dsimp only [gfr] at h) <;> omega)
    clear h_qv
    obtain ⟨e1, he1, -, he1s, hV⟩ := hp
    have hDv := kn_shl he (by omega) hsh hb03.1 (by omega) he1s
    have hD2 := kn_norm he he1 (by omega) (by omega) hb03 hbs hDv
    have lt_qv := hV.lt
    refine lv_aload_n hx hb dJ24_divideMagnitude_49 rfl (lv_at hl 3 rfl) ?_
    refine gw_get (C := RJ24) (T := TJ24) (N := 3) (v := .ref va) hx hb hts in_J24 hown hal hO 0 (by decide) (hts _ q979) (fun _ h9 => h9) rfl dJ24_divideMagnitude_50 ?_
    refine lv_aload_n hx hb dJ24_divideMagnitude_53 rfl (lv_at hl 3 rfl) ?_
    refine gw_get (C := RJ24) (T := TJ24) (N := 3) (v := .int 0) hx hb hts in_J24 hown hal hO 2 (by decide) (hts _ q981) (fun _ h9 => h9) rfl dJ24_divideMagnitude_54 ?_
    refine gw_iald hx hb hal hA 0 (rfl) (by omega) (by omega) dJ24_divideMagnitude_57 ?_
    refine g_topi (v := (nI (d 0))) rfl ?_
    refine gcS1_iP hCF hwm hl.1 (m_nlz l z H_49  (d 0) (hd 0) ) (lw_S q1036 q862 q78 q863) yd_J17_numberOfLeadingZeros ⟨Nat.le_of_ble_eq_true rfl, Nat.le_of_ble_eq_true rfl⟩ ⟨by first | omega | (dsimp only; omega), by first | omega | (dsimp only; omega)⟩ (Nat.le_of_ble_eq_true rfl) dJ24_divideMagnitude_58 (fun rn2 hp => ?_)
    obtain ⟨b1, hb11, hb12, hb13⟩ := hp
    subst hb12
    refine lv_iload hx hb dJ24_divideMagnitude_61 (lv_at hl 2 rfl) ?_
    refine lv_icmp_lt (tgt := 125) hx hb dJ24_divideMagnitude_63 (by decide) (fun c_63 => ?_) (fun c_63 => ?_)
    · skip
      have c_63 := (ai_lt (a := (32 - b1)) (b := sh) (rfl) (rfl) (by omega) (by omega)).mp c_63
      refine lv_aload_n hx hb dJ24_divideMagnitude_125 rfl (lv_at hl 3 rfl) ?_
      refine gw_get (C := RJ24) (T := TJ24) (N := 3) (v := .int (nI n)) hx hb hts in_J24 hown hal hO 1 (by decide) (hts _ q980) (fun _ h9 => h9) rfl dJ24_divideMagnitude_126 ?_
      refine lv_iconst (v := 2) hx hb dJ24_divideMagnitude_129 (by decide) ?_
      refine lv_iadd hx hb dJ24_divideMagnitude_130 ?_
      refine g_topi (v := nI (n + 2)) (ai_add (a := n) (b := 2) (rfl) (rfl)) ?_
      have hsz := hS.1
      have lt_a := hO.lt
      have lt_va := hA.lt
      have lt_b := hOb.lt
      have lt_vb := hB.lt
      have lt_qo := hQo.lt
      have lt_vq := hQa.lt
      have lt_qv := hV.lt
      refine gw_newa (atype := .int) (ty := .int) (N' := (n + 2)) hx hb (hts _ q990) rfl hal hS (rfl) (by omega) (by simp [componentBytes]; omega) (by first | omega | (dsimp only; omega)) (by first | omega | (dsimp only; omega)) dJ24_divideMagnitude_131 (fun qr H_51 eqr zqr hgx h_qr hS => ?_)
      have hO := hO.x hgx
      have hA := hA.x hgx
      have hOb := hOb.x hgx
      have hB := hB.x hgx
      have hQo := hQo.x hgx
      have hQa := hQa.x hgx
      have hV := hV.x hgx
      have h_qr : gI z true .int H_51 qr (n + 2) (fun _ => 0) := h_qr
      have h_qr : gI z true .int H_51 qr (n + 2) (dI (fun _ => 0)) := h_qr
      refine lv_astore hx hb dJ24_divideMagnitude_133 hl (by decide) rfl (fun ls hl => ?_)
      have hl : lv_has ls 28 [(8, .ref qr), (6, .ref qv), (5, .int (nI m0)), (4, .int (nI sh)), (0, .ref a), (1, .ref b), (2, .ref qo), (3, .int 0)] := hl
      have hsz := hS.1
      have lt_a := hO.lt
      have lt_va := hA.lt
      have lt_b := hOb.lt
      have lt_vb := hB.lt
      have lt_qo := hQo.lt
      have lt_vq := hQa.lt
      have lt_qv := hV.lt
      have lt_qr := h_qr.lt
      refine gw_new (C := RJ24) (T := TJ24) (N := 3) (fs := [.null, .int 0, .int 0]) hx hb hts in_J24 tyJ24 tyJ24_ok hown hal (hts _ q1006) (hts _ q974) (hts _ q85) hS (by decide +kernel) (by first | omega | (dsimp only; omega)) (by first | omega | (dsimp only; omega)) dJ24_divideMagnitude_135 (fun qm H_52 eqm zqm hgx h_qm hS => ?_)
      have hO := hO.x hgx
      have hA := hA.x hgx
      have hOb := hOb.x hgx
      have hB := hB.x hgx
      have hQo := hQo.x hgx
      have hQa := hQa.x hgx
      have hV := hV.x hgx
      have h_qr := h_qr.x hgx
      refine lv_dup hx hb dJ24_divideMagnitude_138 rfl ?_
      refine lv_aload hx hb dJ24_divideMagnitude_139 (lv_at hl 0 rfl) ?_
      have hsz := hS.1
      refine gcI1_v hCF hwm hl.1 (m_mInitA l z H_52 qm qr (n + 2) (fun _ => 0) true h_qm h_qr ) q1085 q992 q85 q993 rfl yd_J24_init_2 hS (fun q h => by have hsz := hS.1; (try dsimp only [gfr] at h ⊢) <;> omega) ⟨Nat.le_of_ble_eq_true rfl, Nat.le_of_ble_eq_true rfl⟩ ⟨by first | omega | (dsimp only; omega), by first | omega | (dsimp only; omega)⟩ (Nat.le_of_ble_eq_true rfl) dJ24_divideMagnitude_141 (fun H_53 locs hp hex hS => ?_)
      have sz_H_53 : H_52.size ≤ H_53.size := hex.1
      have hO := hO.ex hex (by intro h; (try dsimp only [gfr] at h) <;> omega)
      have hA := hA.ex hex (by intro h; (try dsimp only [gfr] at h) <;> omega)
      have hOb := hOb.ex hex (by intro h; (try dsimp only [gfr] at h) <;> omega)
      have hB := hB.ex hex (by intro h; (try dsimp only [gfr] at h) <;> omega)
      have hQo := hQo.ex hex (by intro h; (try dsimp only [gfr] at h) <;> omega)
      have hQa := hQa.ex hex (by intro h; (try dsimp only [gfr] at h) <;> omega)
      have hV := hV.ex hex (by intro h; (try dsimp only [gfr] at h) <;> omega)
      have h_qr := h_qr.ex hex (by intro h; (try dsimp only [gfr] at h) <;> omega)
      clear h_qm
      have hRo := hp
      have lt_qm := hRo.lt
      refine lv_astore hx hb dJ24_divideMagnitude_144 hl (by decide) rfl (fun ls hl => ?_)
      have hl : lv_has ls 28 [(7, .ref qm), (8, .ref qr), (6, .ref qv), (5, .int (nI m0)), (4, .int (nI sh)), (0, .ref a), (1, .ref b), (2, .ref qo), (3, .int 0)] := hl
      refine lv_aload hx hb dJ24_divideMagnitude_146 (lv_at hl 0 rfl) ?_
      refine lv_aload_n hx hb dJ24_divideMagnitude_148 rfl (lv_at hl 5 rfl) ?_
      refine gw_get (C := RJ24) (T := TJ24) (N := 3) (v := .int (nI n)) hx hb hts in_J24 hown hal hO 1 (by decide) (hts _ q980) (fun _ h9 => h9) rfl dJ24_divideMagnitude_149 ?_
      refine lv_iconst (v := 1) hx hb dJ24_divideMagnitude_152 (by decide) ?_
      refine lv_iadd hx hb dJ24_divideMagnitude_153 ?_
      refine g_topi (v := nI (n + 1)) (ai_add (a := n) (b := 1) (rfl) (rfl)) ?_
      refine gw_put (C := RJ24) (T := TJ24) (N := 3) (ty := .int) (v := .int (nI (n + 1))) hx hb hts in_J24 tyJ24 tyJ24_ok nmJ24 (hts _ q974) hown hal hRo hS (by have hsz := hS.1; (try dsimp only [gfr]) <;> omega) 1 (by decide) (hts _ q980) (fun _ h9 => h9) rfl (by decide +kernel) (rfl) (rfl) (Nat.le_of_ble_eq_true rfl) dJ24_divideMagnitude_154 (fun H_55 locs h_new hch hS => ?_)
      have hO := hO.ch hch (by omega)
      have hA := hA.ch hch (by omega)
      have hOb := hOb.ch hch (by omega)
      have hB := hB.ch hch (by omega)
      have hQo := hQo.ch hch (by omega)
      have hQa := hQa.ch hch (by omega)
      have hV := hV.ch hch (by omega)
      have h_qr := h_qr.ch hch (by omega)
      have sz_H_55 := hch.1
      clear hch
      have hRo : gO z true RJ24 TJ24 3 H_55 qm [.ref qr, .int (nI (n + 1)), .int 0] := h_new
      refine lv_aload hx hb dJ24_divideMagnitude_157 (lv_at hl 0 rfl) ?_
      refine lv_iconst (v := 1) hx hb dJ24_divideMagnitude_159 (by decide) ?_
      refine gw_put (C := RJ24) (T := TJ24) (N := 3) (ty := .int) (v := .int 1) hx hb hts in_J24 tyJ24 tyJ24_ok nmJ24 (hts _ q974) hown hal hRo hS (by have hsz := hS.1; (try dsimp only [gfr]) <;> omega) 2 (by decide) (hts _ q981) (fun _ h9 => h9) rfl (by decide +kernel) (rfl) (rfl) (Nat.le_of_ble_eq_true rfl) dJ24_divideMagnitude_160 (fun H_56 locs h_new hch hS => ?_)
      have hO := hO.ch hch (by omega)
      have hA := hA.ch hch (by omega)
      have hOb := hOb.ch hch (by omega)
      have hB := hB.ch hch (by omega)
      have hQo := hQo.ch hch (by omega)
      have hQa := hQa.ch hch (by omega)
      have hV := hV.ch hch (by omega)
      have h_qr := h_qr.ch hch (by omega)
      have sz_H_56 := hch.1
      clear hch
      have hRo : gO z true RJ24 TJ24 3 H_56 qm [.ref qr, .int (nI (n + 1)), .int 1] := h_new
      refine lv_aload_n hx hb dJ24_divideMagnitude_163 rfl (lv_at hl 5 rfl) ?_
      refine gw_get (C := RJ24) (T := TJ24) (N := 3) (v := .int 0) hx hb hts in_J24 hown hal hO 2 (by decide) (hts _ q981) (fun _ h9 => h9) rfl dJ24_divideMagnitude_164 ?_
      refine lv_istore hx hb dJ24_divideMagnitude_167 hl (by decide) rfl (fun ls hl => ?_)
      have hl : lv_has ls 28 [(9, .int 0), (7, .ref qm), (8, .ref qr), (6, .ref qv), (5, .int (nI m0)), (4, .int (nI sh)), (0, .ref a), (1, .ref b), (2, .ref qo), (3, .int 0)] := hl
      refine lv_iconst (v := 0) hx hb dJ24_divideMagnitude_169 (by decide) ?_
      refine lv_istore hx hb dJ24_divideMagnitude_170 hl (by decide) rfl (fun ls hl => ?_)
      have hl : lv_has ls 28 [(10, .int 0), (9, .int 0), (7, .ref qm), (8, .ref qr), (6, .ref qv), (5, .int (nI m0)), (4, .int (nI sh)), (0, .ref a), (1, .ref b), (2, .ref qo), (3, .int 0)] := hl
      refine lv_bipush (v := 32) hx hb dJ24_divideMagnitude_172 (by decide) ?_
      refine lv_iload hx hb dJ24_divideMagnitude_174 (lv_at hl 6 rfl) ?_
      refine lv_isub hx hb dJ24_divideMagnitude_176 ?_
      refine g_topi (v := nI (32 - sh)) (ai_sub (a := 32) (b := sh) (rfl) (rfl) (by omega)) ?_
      refine lv_istore hx hb dJ24_divideMagnitude_177 hl (by decide) rfl (fun ls hl => ?_)
      have hl : lv_has ls 28 [(11, .int (nI (32 - sh))), (10, .int 0), (9, .int 0), (7, .ref qm), (8, .ref qr), (6, .ref qv), (5, .int (nI m0)), (4, .int (nI sh)), (0, .ref a), (1, .ref b), (2, .ref qo), (3, .int 0)] := hl
      refine lv_iconst (v := 1) hx hb dJ24_divideMagnitude_179 (by decide) ?_
      refine lv_istore hx hb dJ24_divideMagnitude_180 hl (by decide) rfl (fun ls hl => ?_)
      have hl : lv_has ls 28 [(12, .int 1), (11, .int (nI (32 - sh))), (10, .int 0), (9, .int 0), (7, .ref qm), (8, .ref qr), (6, .ref qv), (5, .int (nI m0)), (4, .int (nI sh)), (0, .ref a), (1, .ref b), (2, .ref qo), (3, .int 0)] := hl
      have e_fit : (fun _ => 0) = (wk (dz d) (fun _ => 0) 1 sh 0) := by
        exact (wk_0 _ _ 1 sh).symm
      replace h_qr : gI z true .int H_56 qr (n + 2) (dI (wk (dz d) (fun _ => 0) 1 sh 0)) := by
        rw [← e_fit]
        exact h_qr
      clear e_fit
      replace hl : lv_has ls 28 [(12, .int (nI (1 + 0))), (11, .int (nI (32 - sh))), (10, .int (nI (dz d 0))), (9, .int (nI 0)), (7, .ref qm), (8, .ref qr), (6, .ref qv), (5, .int (nI m0)), (4, .int (nI sh)), (0, .ref a), (1, .ref b), (2, .ref qo), (3, .int 0)] := by
        exact hl
      have loopZ : ∀ (n_ : Nat) (t : Nat), (t ≤ n) → (n + 1 - t) < n_ → ∀ (H_57 : Heap) (locs : List Loc), va_S (fun q => q = qo ∨ q = vq ∨ H0.size ≤ q) H0 H_57 locs → gO z wa RJ24 TJ24 3 H_57 a [.ref va, .int (nI n), .int 0] → gI z xa .int H_57 va na (dI d) → gO z wb RJ24 TJ24 3 H_57 b [.ref vb, .int (nI m0), .int 0] → gI z xb .int H_57 vb nb (dI ee) → gO z true RJ24 TJ24 3 H_57 qo [.ref vq, .int 0, .int 0] → gI z true .int H_57 vq 1 (dI (fun _ => 0)) → gI z true .int H_57 qv m0 (dI e1) → gI z true .int H_57 qr (n + 2) (dI (wk (dz d) (fun _ => 0) 1 sh t)) → gO z true RJ24 TJ24 3 H_57 qm [.ref qr, .int (nI (n + 1)), .int 1] → ∀ (ls : Array Slot), lv_has ls 28 [(12, .int (nI (1 + t))), (11, .int (nI (32 - sh))), (10, .int (nI (dz d t))), (9, .int (nI t)), (7, .ref qm), (8, .ref qr), (6, .ref qv), (5, .int (nI m0)), (4, .int (nI sh)), (0, .ref a), (1, .ref b), (2, .ref qo), (3, .int 0)] → W p l e { frames := 3, cells := 4, slots := (2 * n + 7), locals := 86 } s m [.ref a, .ref b, .ref qo, .int 0].toArray below meth c H_57 locs 3 (0 + m0 + 0 + (n + 2) + 3 + 0) (MQ below (gRn (fun q => q = qo ∨ q = vq ∨ H0.size ≤ q) H0 (fun H1 => ∃ v1, (v1 = vq ∨ H0.size ≤ v1) ∧ v1 ≠ qo ∧ mV z H1 qo v1 (n + 2) (seg d 0 n / seg ee 0 m0))) [.ref a, .ref b, .ref qo, .int 0].toArray s 4 (2 * n + 7) (fun q => q = qo ∨ q = vq ∨ H0.size ≤ q)) (F0 m 182 ls []) := by
        intro n_
        induction n_ with
        | zero => intro t ht hm_; exact absurd hm_ (Nat.not_lt_zero _)
        | succ n_ ih_loopZ =>
          intro t ht hm_ H_57 locs hS hO hA hOb hB hQo hQa hV h_qr hRo ls hl
          refine lv_iload hx hb dJ24_divideMagnitude_182 (lv_at hl 0 rfl) ?_
          refine lv_aload_n hx hb dJ24_divideMagnitude_184 rfl (lv_at hl 9 rfl) ?_
          refine gw_get (C := RJ24) (T := TJ24) (N := 3) (v := .int (nI n)) hx hb hts in_J24 hown hal hO 1 (by decide) (hts _ q980) (fun _ h9 => h9) rfl dJ24_divideMagnitude_185 ?_
          refine lv_iconst (v := 1) hx hb dJ24_divideMagnitude_188 (by decide) ?_
          refine lv_iadd hx hb dJ24_divideMagnitude_189 ?_
          refine g_topi (v := nI (n + 1)) (ai_add (a := n) (b := 1) (rfl) (rfl)) ?_
          refine lv_icmp_ge (tgt := 231) hx hb dJ24_divideMagnitude_190 (by decide) (fun c_190 => ?_) (fun c_190 => ?_)
          · skip
            have c_190 := (ai_le (a := (n + 1)) (b := (1 + t)) (rfl) (rfl) (by omega) (by omega)).mp c_190
            have e_fit : (wk (dz d) (fun _ => 0) 1 sh t) = (wk (dz d) (fun _ => 0) 1 sh n) := by
              rw [show t = n by omega]
            replace h_qr : gI z true .int H_57 qr (n + 2) (dI (wk (dz d) (fun _ => 0) 1 sh n)) := by
              rw [← e_fit]
              exact h_qr
            clear e_fit
            replace hl : lv_has ls 28 [(12, .int (nI (1 + t))), (11, .int (nI (32 - sh))), (10, .int (nI (dz d n))), (9, .int (nI t)), (7, .ref qm), (8, .ref qr), (6, .ref qv), (5, .int (nI m0)), (4, .int (nI sh)), (0, .ref a), (1, .ref b), (2, .ref qo), (3, .int 0)] := by
              rw [show n = t by omega]
              exact hl
            refine lv_aload hx hb dJ24_divideMagnitude_231 (lv_at hl 5 rfl) ?_
            refine lv_aload_n hx hb dJ24_divideMagnitude_233 rfl (lv_at hl 9 rfl) ?_
            refine gw_get (C := RJ24) (T := TJ24) (N := 3) (v := .int (nI n)) hx hb hts in_J24 hown hal hO 1 (by decide) (hts _ q980) (fun _ h9 => h9) rfl dJ24_divideMagnitude_234 ?_
            refine lv_iconst (v := 1) hx hb dJ24_divideMagnitude_237 (by decide) ?_
            refine lv_iadd hx hb dJ24_divideMagnitude_238 ?_
            refine g_topi (v := nI (n + 1)) (ai_add (a := n) (b := 1) (rfl) (rfl)) ?_
            refine lv_iload hx hb dJ24_divideMagnitude_239 (lv_at hl 2 rfl) ?_
            refine lv_iload hx hb dJ24_divideMagnitude_241 (lv_at hl 8 rfl) ?_
            refine lv_ishl hx hb dJ24_divideMagnitude_243 ?_
            refine g_topi (v := nI ((dz d n) * 2 ^ sh)) (ai_shlv (a := (dz d n)) (k := sh) (rfl) (rfl) (by omega)) ?_
            refine gw_iast (f := (dI (wk (dz d) (fun _ => 0) 1 sh n))) hx hb hal h_qr hS (by have hsz := hS.1; (try dsimp only [gfr]) <;> omega) (n + 1) (rfl) (by omega) (by omega) dJ24_divideMagnitude_244 (fun H_58 locs h_new hch hS => ?_)
            have hO := hO.ch hch (by omega)
            have hA := hA.ch hch (by omega)
            have hOb := hOb.ch hch (by omega)
            have hB := hB.ch hch (by omega)
            have hQo := hQo.ch hch (by omega)
            have hQa := hQa.ch hch (by omega)
            have hV := hV.ch hch (by omega)
            have hRo := hRo.ch hch (by omega)
            have sz_H_58 := hch.1
            clear hch
            have h_qr : gI z true .int H_58 qr (n + 2) (upd (dI (wk (dz d) (fun _ => 0) 1 sh n)) (n + 1) (nI ((dz d n) * 2 ^ sh))) := h_new
            replace h_qr : gI z true .int H_58 qr (n + 2) (dI (dup (wk (dz d) (fun _ => 0) 1 sh n) (n + 1) (((dz d n) * 2 ^ sh) % 4294967296))) := by
              have q := h_qr
              rw [dI_put] at q
              exact q
            have bd_59 : ∀ ix, (dup (wk (dz d) (fun _ => 0) 1 sh n) (n + 1) (((dz d n) * 2 ^ sh) % 4294967296)) ix < 4294967296 := dup_lt (wk_lt (dz_lt hd) (fun _ => by decide) hsh (by omega)) (Nat.mod_lt _ (by decide))
            have hRv : seg (dup (wk (dz d) (fun _ => 0) 1 sh n) (n + 1) (((dz d n) * 2 ^ sh) % 4294967296)) 1 (n + 1) = seg d 0 n * 2 ^ sh := by
              have q := wk_seg (d := dz d) (g := fun _ => 0) (o := 1) (s := sh) (n := n + 1) (by omega)
              rw [Nat.add_sub_cancel, show 1 + (n + 1) - 1 = n + 1 by omega] at q
              rw [q]
              exact dz_val hd hsh n
            have hRa := h_qr
            refine lv_goto (tgt := 323) hx hb dJ24_divideMagnitude_245 (by decide) ?_
            exact W.widen (by omega) (by omega) (cutS qv qm qr (n + 1) sh e1 (dup (wk (dz d) (fun _ => 0) 1 sh n) (n + 1) (((dz d n) * 2 ^ sh) % 4294967296)) (by omega) (by omega) (by omega) he1 bd_59 hD2 hDv hsh hRv H_58 _ hS hO hV hRo hRa hQo hQa ls (lv_sub hl [9, 10, 11, 12, 8, 7, 6, 4] rfl))
          · skip
            have c_190 := mt (ai_le (a := (n + 1)) (b := (1 + t)) (rfl) (rfl) (by omega) (by omega)).mpr c_190
            refine lv_iload hx hb dJ24_divideMagnitude_193 (lv_at hl 2 rfl) ?_
            refine lv_istore hx hb dJ24_divideMagnitude_195 hl (by decide) rfl (fun ls hl => ?_)
            have hl : lv_has ls 28 [(13, .int (nI (dz d t))), (12, .int (nI (1 + t))), (11, .int (nI (32 - sh))), (10, .int (nI (dz d t))), (9, .int (nI t)), (7, .ref qm), (8, .ref qr), (6, .ref qv), (5, .int (nI m0)), (4, .int (nI sh)), (0, .ref a), (1, .ref b), (2, .ref qo), (3, .int 0)] := hl
            refine lv_aload_n hx hb dJ24_divideMagnitude_197 rfl (lv_at hl 10 rfl) ?_
            refine gw_get (C := RJ24) (T := TJ24) (N := 3) (v := .ref va) hx hb hts in_J24 hown hal hO 0 (by decide) (hts _ q979) (fun _ h9 => h9) rfl dJ24_divideMagnitude_198 ?_
            refine lv_iload hx hb dJ24_divideMagnitude_201 (lv_at hl 4 rfl) ?_
            refine gw_iald hx hb hal hA t (rfl) (by omega) (by omega) dJ24_divideMagnitude_203 ?_
            refine g_topi (v := (nI (d t))) rfl ?_
            refine g_topi (v := (nI (dz d (t + 1)))) (rfl) ?_
            refine lv_istore hx hb dJ24_divideMagnitude_204 hl (by decide) rfl (fun ls hl => ?_)
            have hl : lv_has ls 28 [(10, .int (nI (dz d (t + 1)))), (13, .int (nI (dz d t))), (12, .int (nI (1 + t))), (11, .int (nI (32 - sh))), (9, .int (nI t)), (7, .ref qm), (8, .ref qr), (6, .ref qv), (5, .int (nI m0)), (4, .int (nI sh)), (0, .ref a), (1, .ref b), (2, .ref qo), (3, .int 0)] := hl
            refine lv_aload hx hb dJ24_divideMagnitude_206 (lv_at hl 6 rfl) ?_
            refine lv_iload hx hb dJ24_divideMagnitude_208 (lv_at hl 2 rfl) ?_
            refine lv_iload hx hb dJ24_divideMagnitude_210 (lv_at hl 1 rfl) ?_
            refine lv_iload hx hb dJ24_divideMagnitude_212 (lv_at hl 9 rfl) ?_
            refine lv_ishl hx hb dJ24_divideMagnitude_214 ?_
            refine g_topi (v := nI ((dz d t) * 2 ^ sh)) (ai_shlv (a := (dz d t)) (k := sh) (rfl) (rfl) (by omega)) ?_
            have hq1 := dz_lt hd (t + 1)
            refine lv_iload hx hb dJ24_divideMagnitude_215 (lv_at hl 0 rfl) ?_
            refine lv_iload hx hb dJ24_divideMagnitude_217 (lv_at hl 3 rfl) ?_
            refine lv_iushr hx hb dJ24_divideMagnitude_219 rfl ?_
            refine g_topi (v := nI ((dz d (t + 1)) / 2 ^ (32 - sh))) (ai_ushr (a := (dz d (t + 1))) (k := (32 - sh)) (rfl) (rfl) (by omega) (by omega)) ?_
            refine lv_ior hx hb dJ24_divideMagnitude_220 ?_
            refine g_topi (v := (nI ((dz d t * 2 ^ sh) % 4294967296 + dz d (t + 1) / 2 ^ (32 - sh)))) ((sh_dig hsh (by omega) (dz_lt hd (t + 1))).1) ?_
            refine gw_iast (f := (dI (wk (dz d) (fun _ => 0) 1 sh t))) hx hb hal h_qr hS (by have hsz := hS.1; (try dsimp only [gfr]) <;> omega) (1 + t) (rfl) (by omega) (by omega) dJ24_divideMagnitude_221 (fun H_60 locs h_new hch hS => ?_)
            have hO := hO.ch hch (by omega)
            have hA := hA.ch hch (by omega)
            have hOb := hOb.ch hch (by omega)
            have hB := hB.ch hch (by omega)
            have hQo := hQo.ch hch (by omega)
            have hQa := hQa.ch hch (by omega)
            have hV := hV.ch hch (by omega)
            have hRo := hRo.ch hch (by omega)
            have sz_H_60 := hch.1
            clear hch
            have h_qr : gI z true .int H_60 qr (n + 2) (upd (dI (wk (dz d) (fun _ => 0) 1 sh t)) (1 + t) (nI ((dz d t * 2 ^ sh) % 4294967296 + dz d (t + 1) / 2 ^ (32 - sh)))) := h_new
            replace h_qr : gI z true .int H_60 qr (n + 2) (dI (dup (wk (dz d) (fun _ => 0) 1 sh t) (1 + t) (((dz d t * 2 ^ sh) % 4294967296 + dz d (t + 1) / 2 ^ (32 - sh)) % 4294967296))) := by
              have q := h_qr
              rw [dI_put] at q
              exact q
            have bd_61 : ∀ ix, (dup (wk (dz d) (fun _ => 0) 1 sh t) (1 + t) (((dz d t * 2 ^ sh) % 4294967296 + dz d (t + 1) / 2 ^ (32 - sh)) % 4294967296)) ix < 4294967296 := dup_lt (wk_lt (dz_lt hd) (fun _ => by decide) hsh (by omega)) (Nat.mod_lt _ (by decide))
            refine lv_iinc (k := 2) (v := (nI (1 + t + 1))) hx hb dJ24_divideMagnitude_222 hl rfl (ai_add (a := (1 + t)) (b := 1) (rfl) (show Int32.ofInt 1 = nI 1 by decide)) (by decide) rfl (fun ls hl => ?_)
            have hl : lv_has ls 28 [(12, .int (nI (1 + t + 1))), (10, .int (nI (dz d (t + 1)))), (13, .int (nI (dz d t))), (11, .int (nI (32 - sh))), (9, .int (nI t)), (7, .ref qm), (8, .ref qr), (6, .ref qv), (5, .int (nI m0)), (4, .int (nI sh)), (0, .ref a), (1, .ref b), (2, .ref qo), (3, .int 0)] := hl
            refine lv_iinc (k := 4) (v := (nI (t + 1))) hx hb dJ24_divideMagnitude_225 hl rfl (ai_add (a := t) (b := 1) (rfl) (show Int32.ofInt 1 = nI 1 by decide)) (by decide) rfl (fun ls hl => ?_)
            have hl : lv_has ls 28 [(9, .int (nI (t + 1))), (12, .int (nI (1 + t + 1))), (10, .int (nI (dz d (t + 1)))), (13, .int (nI (dz d t))), (11, .int (nI (32 - sh))), (7, .ref qm), (8, .ref qr), (6, .ref qv), (5, .int (nI m0)), (4, .int (nI sh)), (0, .ref a), (1, .ref b), (2, .ref qo), (3, .int 0)] := hl
            refine lv_goto (tgt := 182) hx hb dJ24_divideMagnitude_228 (by decide) ?_
            have e_fit : (dup (wk (dz d) (fun _ => 0) 1 sh t) (1 + t) (((dz d t * 2 ^ sh) % 4294967296 + dz d (t + 1) / 2 ^ (32 - sh)) % 4294967296)) = (wk (dz d) (fun _ => 0) 1 sh (t + 1)) := by
              exact wk_s (dz_lt hd) hsh (by omega)
            replace h_qr : gI z true .int H_60 qr (n + 2) (dI (wk (dz d) (fun _ => 0) 1 sh (t + 1))) := by
              rw [← e_fit]
              exact h_qr
            clear e_fit
            replace hl : lv_has ls 28 [(9, .int (nI (t + 1))), (12, .int (nI (1 + (t + 1)))), (10, .int (nI (dz d (t + 1)))), (13, .int (nI (dz d t))), (11, .int (nI (32 - sh))), (7, .ref qm), (8, .ref qr), (6, .ref qv), (5, .int (nI m0)), (4, .int (nI sh)), (0, .ref a), (1, .ref b), (2, .ref qo), (3, .int 0)] := by
              exact hl
            exact ih_loopZ (t + 1) (by omega) (by omega) H_60 _ hS hO hA hOb hB hQo hQa hV h_qr hRo ls (lv_sub hl [1, 4, 2, 0, 5, 6, 7, 8, 9, 10, 11, 12, 13] rfl)
      exact loopZ _ 0 (Nat.zero_le _) (Nat.lt_succ_self _) H_56 _ hS hO hA hOb hB hQo hQa hV h_qr hRo ls (lv_sub hl [0, 1, 2, 3, 4, 5, 6, 7, 8, 9, 10, 11, 12] rfl)
    · skip
      have c_63 := mt (ai_lt (a := (32 - b1)) (b := sh) (rfl) (rfl) (by omega) (by omega)).mpr c_63
      refine lv_aload_n hx hb dJ24_divideMagnitude_66 rfl (lv_at hl 3 rfl) ?_
      refine gw_get (C := RJ24) (T := TJ24) (N := 3) (v := .int (nI n)) hx hb hts in_J24 hown hal hO 1 (by decide) (hts _ q980) (fun _ h9 => h9) rfl dJ24_divideMagnitude_67 ?_
      refine lv_iconst (v := 1) hx hb dJ24_divideMagnitude_70 (by decide) ?_
      refine lv_iadd hx hb dJ24_divideMagnitude_71 ?_
      refine g_topi (v := nI (n + 1)) (ai_add (a := n) (b := 1) (rfl) (rfl)) ?_
      have hsz := hS.1
      have lt_a := hO.lt
      have lt_va := hA.lt
      have lt_b := hOb.lt
      have lt_vb := hB.lt
      have lt_qo := hQo.lt
      have lt_vq := hQa.lt
      have lt_qv := hV.lt
      refine gw_newa (atype := .int) (ty := .int) (N' := (n + 1)) hx hb (hts _ q990) rfl hal hS (rfl) (by omega) (by simp [componentBytes]; omega) (by first | omega | (dsimp only; omega)) (by first | omega | (dsimp only; omega)) dJ24_divideMagnitude_72 (fun qr H_62 eqr zqr hgx h_qr hS => ?_)
      have hO := hO.x hgx
      have hA := hA.x hgx
      have hOb := hOb.x hgx
      have hB := hB.x hgx
      have hQo := hQo.x hgx
      have hQa := hQa.x hgx
      have hV := hV.x hgx
      have h_qr : gI z true .int H_62 qr (n + 1) (fun _ => 0) := h_qr
      have h_qr : gI z true .int H_62 qr (n + 1) (dI (fun _ => 0)) := h_qr
      refine lv_astore hx hb dJ24_divideMagnitude_74 hl (by decide) rfl (fun ls hl => ?_)
      have hl : lv_has ls 28 [(8, .ref qr), (6, .ref qv), (5, .int (nI m0)), (4, .int (nI sh)), (0, .ref a), (1, .ref b), (2, .ref qo), (3, .int 0)] := hl
      have hsz := hS.1
      have lt_a := hO.lt
      have lt_va := hA.lt
      have lt_b := hOb.lt
      have lt_vb := hB.lt
      have lt_qo := hQo.lt
      have lt_vq := hQa.lt
      have lt_qv := hV.lt
      have lt_qr := h_qr.lt
      refine gw_new (C := RJ24) (T := TJ24) (N := 3) (fs := [.null, .int 0, .int 0]) hx hb hts in_J24 tyJ24 tyJ24_ok hown hal (hts _ q1006) (hts _ q974) (hts _ q85) hS (by decide +kernel) (by first | omega | (dsimp only; omega)) (by first | omega | (dsimp only; omega)) dJ24_divideMagnitude_76 (fun qm H_63 eqm zqm hgx h_qm hS => ?_)
      have hO := hO.x hgx
      have hA := hA.x hgx
      have hOb := hOb.x hgx
      have hB := hB.x hgx
      have hQo := hQo.x hgx
      have hQa := hQa.x hgx
      have hV := hV.x hgx
      have h_qr := h_qr.x hgx
      refine lv_dup hx hb dJ24_divideMagnitude_79 rfl ?_
      refine lv_aload hx hb dJ24_divideMagnitude_80 (lv_at hl 0 rfl) ?_
      have hsz := hS.1
      refine gcI1_v hCF hwm hl.1 (m_mInitA l z H_63 qm qr (n + 1) (fun _ => 0) true h_qm h_qr ) q1085 q992 q85 q993 rfl yd_J24_init_2 hS (fun q h => by have hsz := hS.1; (try dsimp only [gfr] at h ⊢) <;> omega) ⟨Nat.le_of_ble_eq_true rfl, Nat.le_of_ble_eq_true rfl⟩ ⟨by first | omega | (dsimp only; omega), by first | omega | (dsimp only; omega)⟩ (Nat.le_of_ble_eq_true rfl) dJ24_divideMagnitude_82 (fun H_64 locs hp hex hS => ?_)
      have sz_H_64 : H_63.size ≤ H_64.size := hex.1
      have hO := hO.ex hex (by intro h; (try dsimp only [gfr] at h) <;> omega)
      have hA := hA.ex hex (by intro h; (try dsimp only [gfr] at h) <;> omega)
      have hOb := hOb.ex hex (by intro h; (try dsimp only [gfr] at h) <;> omega)
      have hB := hB.ex hex (by intro h; (try dsimp only [gfr] at h) <;> omega)
      have hQo := hQo.ex hex (by intro h; (try dsimp only [gfr] at h) <;> omega)
      have hQa := hQa.ex hex (by intro h; (try dsimp only [gfr] at h) <;> omega)
      have hV := hV.ex hex (by intro h; (try dsimp only [gfr] at h) <;> omega)
      have h_qr := h_qr.ex hex (by intro h; (try dsimp only [gfr] at h) <;> omega)
      clear h_qm
      have hRo := hp
      have lt_qm := hRo.lt
      refine lv_astore hx hb dJ24_divideMagnitude_85 hl (by decide) rfl (fun ls hl => ?_)
      have hl : lv_has ls 28 [(7, .ref qm), (8, .ref qr), (6, .ref qv), (5, .int (nI m0)), (4, .int (nI sh)), (0, .ref a), (1, .ref b), (2, .ref qo), (3, .int 0)] := hl
      refine lv_aload hx hb dJ24_divideMagnitude_87 (lv_at hl 0 rfl) ?_
      refine lv_aload_n hx hb dJ24_divideMagnitude_89 rfl (lv_at hl 5 rfl) ?_
      refine gw_get (C := RJ24) (T := TJ24) (N := 3) (v := .int (nI n)) hx hb hts in_J24 hown hal hO 1 (by decide) (hts _ q980) (fun _ h9 => h9) rfl dJ24_divideMagnitude_90 ?_
      refine gw_put (C := RJ24) (T := TJ24) (N := 3) (ty := .int) (v := .int (nI n)) hx hb hts in_J24 tyJ24 tyJ24_ok nmJ24 (hts _ q974) hown hal hRo hS (by have hsz := hS.1; (try dsimp only [gfr]) <;> omega) 1 (by decide) (hts _ q980) (fun _ h9 => h9) rfl (by decide +kernel) (rfl) (rfl) (Nat.le_of_ble_eq_true rfl) dJ24_divideMagnitude_93 (fun H_66 locs h_new hch hS => ?_)
      have hO := hO.ch hch (by omega)
      have hA := hA.ch hch (by omega)
      have hOb := hOb.ch hch (by omega)
      have hB := hB.ch hch (by omega)
      have hQo := hQo.ch hch (by omega)
      have hQa := hQa.ch hch (by omega)
      have hV := hV.ch hch (by omega)
      have h_qr := h_qr.ch hch (by omega)
      have sz_H_66 := hch.1
      clear hch
      have hRo : gO z true RJ24 TJ24 3 H_66 qm [.ref qr, .int (nI n), .int 0] := h_new
      refine lv_aload hx hb dJ24_divideMagnitude_96 (lv_at hl 0 rfl) ?_
      refine lv_iconst (v := 1) hx hb dJ24_divideMagnitude_98 (by decide) ?_
      refine gw_put (C := RJ24) (T := TJ24) (N := 3) (ty := .int) (v := .int 1) hx hb hts in_J24 tyJ24 tyJ24_ok nmJ24 (hts _ q974) hown hal hRo hS (by have hsz := hS.1; (try dsimp only [gfr]) <;> omega) 2 (by decide) (hts _ q981) (fun _ h9 => h9) rfl (by decide +kernel) (rfl) (rfl) (Nat.le_of_ble_eq_true rfl) dJ24_divideMagnitude_99 (fun H_67 locs h_new hch hS => ?_)
      have hO := hO.ch hch (by omega)
      have hA := hA.ch hch (by omega)
      have hOb := hOb.ch hch (by omega)
      have hB := hB.ch hch (by omega)
      have hQo := hQo.ch hch (by omega)
      have hQa := hQa.ch hch (by omega)
      have hV := hV.ch hch (by omega)
      have h_qr := h_qr.ch hch (by omega)
      have sz_H_67 := hch.1
      clear hch
      have hRo : gO z true RJ24 TJ24 3 H_67 qm [.ref qr, .int (nI n), .int 1] := h_new
      refine lv_aload_n hx hb dJ24_divideMagnitude_102 rfl (lv_at hl 5 rfl) ?_
      refine gw_get (C := RJ24) (T := TJ24) (N := 3) (v := .ref va) hx hb hts in_J24 hown hal hO 0 (by decide) (hts _ q979) (fun _ h9 => h9) rfl dJ24_divideMagnitude_103 ?_
      refine lv_aload_n hx hb dJ24_divideMagnitude_106 rfl (lv_at hl 5 rfl) ?_
      refine gw_get (C := RJ24) (T := TJ24) (N := 3) (v := .int 0) hx hb hts in_J24 hown hal hO 2 (by decide) (hts _ q981) (fun _ h9 => h9) rfl dJ24_divideMagnitude_107 ?_
      refine lv_aload_n hx hb dJ24_divideMagnitude_110 rfl (lv_at hl 5 rfl) ?_
      refine gw_get (C := RJ24) (T := TJ24) (N := 3) (v := .int (nI n)) hx hb hts in_J24 hown hal hO 1 (by decide) (hts _ q980) (fun _ h9 => h9) rfl dJ24_divideMagnitude_111 ?_
      refine lv_aload hx hb dJ24_divideMagnitude_114 (lv_at hl 1 rfl) ?_
      refine lv_iconst (v := 1) hx hb dJ24_divideMagnitude_116 (by decide) ?_
      refine lv_iload hx hb dJ24_divideMagnitude_117 (lv_at hl 4 rfl) ?_
      have hsz := hS.1
      refine gcS6_v hCF hwm hl.1 (m_copyShift l z H_67 va qr 0 n 1 sh na (n + 1) xa d (fun _ => 0) (by omega) (by omega) hsh (by omega) (by omega) (by omega) (by omega) (by omega) hd (fun _ => by decide) hA h_qr ) (lw_S q1082 q1083 q85 q1084) yd_J24_copyAndShift hS (fun q h => by have hsz := hS.1; (try dsimp only [gfr] at h ⊢) <;> omega) ⟨Nat.le_of_ble_eq_true rfl, Nat.le_of_ble_eq_true rfl⟩ ⟨by first | omega | (dsimp only; omega), by first | omega | (dsimp only; omega)⟩ (Nat.le_of_ble_eq_true rfl) dJ24_divideMagnitude_119 (fun H_68 locs hp hex hS => ?_)
      have sz_H_68 : H_67.size ≤ H_68.size := hex.1
      have hO := hO.ex hex (by intro h; (try dsimp only [gfr] at h) <;> omega)
      have hA := hA.ex hex (by intro h; (try dsimp only [gfr] at h) <;> omega)
      have hOb := hOb.ex hex (by intro h; (try dsimp only [gfr] at h) <;> omega)
      have hB := hB.ex hex (by intro h; (try dsimp only [gfr] at h) <;> omega)
      have hQo := hQo.ex hex (by intro h; (try dsimp only [gfr] at h) <;> omega)
      have hQa := hQa.ex hex (by intro h; (try dsimp only [gfr] at h) <;> omega)
      have hV := hV.ex hex (by intro h; (try dsimp only [gfr] at h) <;> omega)
      have hRo := hRo.ex hex (by intro h; (try dsimp only [gfr] at h) <;> omega)
      clear h_qr
      obtain ⟨g, hg, -, hgs, hRa⟩ := hp
      have hRv := kn_shl hd (by omega) hsh hb13.1 (by omega) hgs
      have lt_qr := hRa.lt
      refine lv_goto (tgt := 323) hx hb dJ24_divideMagnitude_122 (by decide) ?_
      exact W.widen (by omega) (by omega) (cutS qv qm qr n sh e1 g (by omega) (by omega) (by omega) he1 hg hD2 hDv hsh hRv H_68 _ hS hO hV hRo hRa hQo hQa ls (lv_sub hl [5, 6, 7, 8, 4, 3, 2, 0] rfl))
